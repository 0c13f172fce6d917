section
/-! 01: rows of the kit's PURE-ROWS (a starting text): stores, numbers, masks, shifts, branches by naturals -/
theorem pk_us {f : Nat → Int32} {k : Nat} {x : Int32} : upd f k x k = x := if_pos rfl
theorem pk_un {f : Nat → Int32} {k j : Nat} {x : Int32} (h : j ≠ k) : upd f k x j = f j := if_neg h
theorem pk_uLs {f : Nat → Int64} {k : Nat} {x : Int64} : vp_updL f k x k = x := if_pos rfl
theorem pk_uLn {f : Nat → Int64} {k j : Nat} {x : Int64} (h : j ≠ k) : vp_updL f k x j = f j := if_neg h
theorem pk_sub {a b : Nat} (h : b ≤ a) : nI a - nI b = nI (a - b) := by
  obtain ⟨c, rfl⟩ : ∃ c, a = c + b := ⟨a - b, by omega⟩
  rw [← nI_add, Int32.add_sub_cancel, Nat.add_sub_cancel]
theorem pk_m1 (n : Nat) : nI (n + 1) + (-1) = nI n := by
  rw [← nI_1, Int32.add_assoc, show (1 : Int32) + (-1) = 0 from rfl, Int32.add_zero]
theorem pk_mul (a b : Nat) : nI a * nI b = nI (a * b) := (Int32.ofNat_mul a b).symm
theorem pk_div {a d : Nat} (ha : a < 2 ^ 31) (h0 : 0 < d) (hd : d < 2 ^ 31) : nI a / nI d = nI (a / d) := by
  apply Int32.toInt_inj.mp
  rw [lg_idiv_nonneg (by rw [nI_toInt ha]; omega) (by rw [nI_toInt hd]; omega), nI_toInt ha, nI_toInt hd, nI_toInt (Nat.lt_of_le_of_lt (Nat.div_le_self a d) ha)]
  first | rfl | exact (Int.natCast_ediv _ _).symm
theorem pk_rem {a d : Nat} (ha : a < 2 ^ 31) (h0 : 0 < d) (hd : d < 2 ^ 31) : nI a - nI a / nI d * nI d = nI (a % d) := by
  rw [pk_div ha h0 hd, pk_mul, pk_sub (Nat.div_mul_le_self a d)]
  exact congrArg nI (by have := Nat.div_add_mod' a d; omega)
theorem pk_sub_toInt {a b : Nat} (ha : a < 2 ^ 30) (hb : b < 2 ^ 30) : (nI a - nI b).toInt = (a : Int) - b := by
  rw [Int32.toInt_sub, nI_toInt (by omega), nI_toInt (by omega)]
  exact Int.bmod_eq_of_le (by omega) (by omega)
theorem pk_sneg {a b : Nat} (hb : b < 2 ^ 30) (h : a < b) : nI a - nI b < 0 := by
  rw [Int32.lt_iff_toInt_lt, pk_sub_toInt (by omega) hb, show (0 : Int32).toInt = 0 from by decide]
  omega
theorem pk_ix (x : Int32) {n : Nat} (hn : n < 2 ^ 31) : x < 0 ∨ nI n ≤ x ∨ ∃ j : Nat, j < n ∧ x = nI j := by
  by_cases h : x < 0
  · exact Or.inl h
  · obtain ⟨j, hj, rfl⟩ := nI_of h
    by_cases h2 : j < n
    · exact Or.inr (Or.inr ⟨j, h2, rfl⟩)
    · exact Or.inr (Or.inl (nI_le (by omega) hj))
theorem pk_le {x y : Int32} {A B : Prop} (a b : Nat) (f : a ≤ b → A) (g : b < a → B) (hx : x = nI a := by rfl) (hy : y = nI b := by rfl) (ha : a < 2 ^ 31 := by omega) (hb : b < 2 ^ 31 := by omega) : (x ≤ y → A) ∧ (¬ x ≤ y → B) := by
  subst hx hy
  rw [nI_leI ha hb]
  exact ⟨f, fun z => g (by omega)⟩
theorem pk_lt {x y : Int32} {A B : Prop} (a b : Nat) (f : a < b → A) (g : b ≤ a → B) (hx : x = nI a := by rfl) (hy : y = nI b := by rfl) (ha : a < 2 ^ 31 := by omega) (hb : b < 2 ^ 31 := by omega) : (x < y → A) ∧ (¬ x < y → B) := by
  subst hx hy
  rw [nI_ltI ha hb]
  exact ⟨f, fun z => g (by omega)⟩
theorem pk_eq {x y : Int32} {A B : Prop} (a b : Nat) (f : a = b → A) (g : a ≠ b → B) (hx : x = nI a := by rfl) (hy : y = nI b := by rfl) (ha : a < 2 ^ 31 := by omega) (hb : b < 2 ^ 31 := by omega) : (x = y → A) ∧ (¬ x = y → B) := by
  subst hx hy
  rw [nI_eq ha hb]
  exact ⟨f, g⟩
theorem pk_in {x : Int32} (n N : Nat) (h : n < N) (hx : x = nI n := by rfl) (hN : N < 2 ^ 31 := by omega) : vp_in x N := by
  subst hx
  exact vp_in_nI h hN
theorem pk_cl {x : Int32} (n : Nat) (hx : x = nI n := by rfl) (h : n < 2 ^ 31 := by omega) : x.toNatClampNeg = n := by
  subst hx
  exact nI_clamp h
theorem pk_tn {n : Nat} (h : n < 2 ^ 32) : (nI n).toBitVec.toNat = n := Nat.mod_eq_of_lt h
theorem pk_and (x : Int32) {m : Int32} (k : Nat) (hm : m.toBitVec.toNat = 2 ^ k - 1) : x &&& m = nI (x.toBitVec.toNat % 2 ^ k) := by
  apply Int32.toBitVec_inj.mp
  apply BitVec.eq_of_toNat_eq
  rw [Int32.toBitVec_and, BitVec.toNat_and, hm, Nat.and_two_pow_sub_one_eq_mod]
  show _ = (BitVec.ofNat 32 _).toNat
  rw [BitVec.toNat_ofNat]
  exact (Nat.mod_eq_of_lt (Nat.lt_of_le_of_lt (Nat.mod_le _ _) x.toBitVec.isLt)).symm
theorem pk_andN {n : Nat} (h : n < 2 ^ 32) {m : Int32} (k : Nat) (hm : m.toBitVec.toNat = 2 ^ k - 1) : nI n &&& m = nI (n % 2 ^ k) := by
  rw [pk_and _ k hm, pk_tn h]
theorem pk_andE (x : Int32) {m : Int32} (k : Nat) (hm : m.toBitVec.toNat = 2 ^ k - 1) : ∃ j : Nat, j < 2 ^ k ∧ x &&& m = nI j := ⟨_, Nat.mod_lt _ (Nat.two_pow_pos k), pk_and x k hm⟩
theorem pk_andIn (x : Int32) {m : Int32} (k : Nat) (hm : m.toBitVec.toNat = 2 ^ k - 1) (hk : k ≤ 30) : vp_in (x &&& m) (2 ^ k) := by
  obtain ⟨j, hj, e⟩ := pk_andE x k hm
  rw [e]
  exact vp_in_nI hj (Nat.lt_of_le_of_lt (Nat.pow_le_pow_right (by decide) hk) (by decide))
theorem pk_shl (a s : Int32) (k : Nat) (hs : (s.toBitVec.smod 32).toNat = k) : (a <<< s).toBitVec.toNat = a.toBitVec.toNat * 2 ^ k % 2 ^ 32 := by
  show (a.toBitVec <<< (s.toBitVec.smod 32).toNat).toNat = _
  rw [hs, BitVec.toNat_shiftLeft, Nat.shiftLeft_eq]
theorem pk_shlN {n : Nat} (s : Int32) (k : Nat) (hs : (s.toBitVec.smod 32).toNat = k) (h : n * 2 ^ k < 2 ^ 32) : nI n <<< s = nI (n * 2 ^ k) := by
  apply Int32.toBitVec_inj.mp
  apply BitVec.eq_of_toNat_eq
  have hn : n < 2 ^ 32 := Nat.lt_of_le_of_lt (Nat.le_mul_of_pos_right n (Nat.two_pow_pos k)) h
  rw [pk_shl _ _ k hs, pk_tn hn, pk_tn h, Nat.mod_eq_of_lt h]
theorem pk_shr (a s : Int32) (k : Nat) (hs : (s.toBitVec.smod 32).toNat = k) : (a >>> s).toInt = a.toInt >>> k := by
  show (a.toBitVec.sshiftRight (s.toBitVec.smod 32).toNat).toInt = _
  rw [hs, BitVec.toInt_sshiftRight]
  rfl
theorem pk_shrN {n : Nat} (h : n < 2 ^ 31) (s : Int32) (k : Nat) (hs : (s.toBitVec.smod 32).toNat = k) : nI n >>> s = nI (n / 2 ^ k) := by
  apply Int32.toInt_inj.mp
  have h2 : n / 2 ^ k ≤ n := Nat.div_le_self _ _
  rw [pk_shr _ _ k hs, nI_toInt h, nI_toInt (by omega), Int.shiftRight_eq_div_pow]
  rfl
end
section
/-! 02: sums, digits to the base 3, counts: no program in sight -/
def sc_i (a b : Nat) : Nat := if a = b then 1 else 0
theorem sc_i_t {a b : Nat} (h : a = b) : sc_i a b = 1 := if_pos h
theorem sc_i_f {a b : Nat} (h : a ≠ b) : sc_i a b = 0 := if_neg h
theorem sc_i_c (a b : Nat) : (a = b ∧ sc_i a b = 1) ∨ (a ≠ b ∧ sc_i a b = 0) := by
  by_cases h : a = b
  · exact Or.inl ⟨h, sc_i_t h⟩
  · exact Or.inr ⟨h, sc_i_f h⟩
theorem sc_i_le (a b : Nat) : sc_i a b ≤ 1 := by
  rcases sc_i_c a b with h | h <;> omega
def sc_sm (f : Nat → Nat) : Nat → Nat
  | 0 => 0
  | k + 1 => sc_sm f k + f k
theorem sc_sm_s (f : Nat → Nat) (k : Nat) : sc_sm f (k + 1) = sc_sm f k + f k := rfl
theorem sc_sm_c {f g : Nat → Nat} : ∀ k, (∀ j, j < k → f j = g j) → sc_sm f k = sc_sm g k := by
  intro k
  induction k with
  | zero => intro _; rfl
  | succ k ih =>
    intro h
    rw [sc_sm_s, sc_sm_s, ih (fun j hj => h j (by omega)), h k (by omega)]
theorem sc_sm_u {f g : Nat → Nat} {a : Nat} : ∀ k, a < k → (∀ j, j < k → j ≠ a → g j = f j) → sc_sm g k + f a = sc_sm f k + g a := by
  intro k
  induction k with
  | zero => intro h; omega
  | succ k ih =>
    intro ha h
    rw [sc_sm_s, sc_sm_s]
    by_cases e : a = k
    · have h1 := sc_sm_c (f := g) (g := f) k (fun j hj => h j (by omega) (by omega))
      rw [h1, e]; omega
    · have h1 := ih (by omega) (fun j hj hn => h j (by omega) hn)
      have h2 := h k (by omega) (fun z => e z.symm)
      omega
theorem sc_sm_z {f : Nat → Nat} : ∀ k, (∀ j, j < k → f j = 0) → sc_sm f k = 0 := by
  intro k
  induction k with
  | zero => intro _; rfl
  | succ k ih =>
    intro h
    rw [sc_sm_s, ih (fun j hj => h j (by omega)), h k (by omega)]
theorem sc_sm_a {f g : Nat → Nat} : ∀ k, sc_sm (fun j => f j + g j) k = sc_sm f k + sc_sm g k := by
  intro k
  induction k with
  | zero => rfl
  | succ k ih => rw [sc_sm_s, sc_sm_s, sc_sm_s, ih]; omega
theorem sc_sm_le {f g : Nat → Nat} : ∀ k, (∀ j, j < k → f j ≤ g j) → sc_sm f k ≤ sc_sm g k := by
  intro k
  induction k with
  | zero => intro _; exact Nat.le_refl _
  | succ k ih =>
    intro h
    rw [sc_sm_s, sc_sm_s]
    have h1 := ih (fun j hj => h j (by omega))
    have h2 := h k (by omega)
    omega
theorem sc_sm_1 {f : Nat → Nat} {a k : Nat} (h : a < k) : sc_sm (fun j => sc_i a j * f j) k = f a := by
  have h1 := sc_sm_u (f := fun _ => 0) (g := fun j => sc_i a j * f j) (a := a) k h (fun j _ hn => by
    show sc_i a j * f j = 0
    rw [sc_i_f (fun z => hn z.symm), Nat.zero_mul])
  have h2 : sc_sm (fun _ => 0) k = 0 := sc_sm_z k (fun _ _ => rfl)
  have h3 : sc_i a a * f a = f a := by
    rw [sc_i_t rfl, Nat.one_mul]
  rw [h2, h3] at h1
  omega
theorem sc_sm_k (b : Nat) : ∀ k, sc_sm (fun _ => b) k = k * b := by
  intro k
  induction k with
  | zero => rw [Nat.zero_mul]; rfl
  | succ k ih => rw [sc_sm_s, ih, Nat.succ_mul]
/-- double counting: codes by their classes -/
theorem sc_dc (cl f : Nat → Nat) (K : Nat) : ∀ L, (∀ c, c < L → cl c < K) → sc_sm (fun c => f (cl c)) L = sc_sm (fun C => sc_sm (fun c => sc_i (cl c) C) L * f C) K := by
  intro L
  induction L with
  | zero =>
    intro _
    exact (sc_sm_z K (fun j _ => Nat.zero_mul _)).symm
  | succ L ih =>
    intro h
    rw [sc_sm_s, ih (fun c hc => h c (by omega))]
    have e : sc_sm (fun C => sc_sm (fun c => sc_i (cl c) C) (L + 1) * f C) K = sc_sm (fun C => (fun C => sc_sm (fun c => sc_i (cl c) C) L * f C) C + (fun C => sc_i (cl L) C * f C) C) K :=
      sc_sm_c K (fun C _ => by
        show (sc_sm (fun c => sc_i (cl c) C) L + sc_i (cl L) C) * f C = sc_sm (fun c => sc_i (cl c) C) L * f C + sc_i (cl L) C * f C
        rw [Nat.add_mul])
    rw [e, sc_sm_a, sc_sm_1 (f := f) (h L (by omega))]
/-! an 'if' over a Prop -/
noncomputable def sc_b (P : Prop) : Nat := @ite Nat P (Classical.propDecidable P) 1 0
theorem sc_b_t {P : Prop} (h : P) : sc_b P = 1 := by unfold sc_b; rw [if_pos h]
theorem sc_b_f {P : Prop} (h : ¬ P) : sc_b P = 0 := by unfold sc_b; rw [if_neg h]
theorem sc_b_c (P : Prop) : (P ∧ sc_b P = 1) ∨ (¬ P ∧ sc_b P = 0) := by
  rcases Classical.em P with h | h
  · exact Or.inl ⟨h, sc_b_t h⟩
  · exact Or.inr ⟨h, sc_b_f h⟩
theorem sc_b_le (P : Prop) : sc_b P ≤ 1 := by
  rcases sc_b_c P with h | h <;> omega
theorem sc_b_i {P Q : Prop} (h : P ↔ Q) : sc_b P = sc_b Q := by
  rcases sc_b_c P with ⟨a, e⟩ | ⟨a, e⟩
  · rw [e, sc_b_t (h.mp a)]
  · rw [e, sc_b_f (fun q => a (h.mpr q))]
/-- one more: the count of those below k with P, when P gains a -/
theorem sc_cn_u {P Q : Nat → Prop} {a k : Nat} (ha : a < k) (hp : ¬ P a) (hq : Q a) (h : ∀ j, j < k → j ≠ a → (Q j ↔ P j)) : sc_sm (fun j => sc_b (Q j)) k = sc_sm (fun j => sc_b (P j)) k + 1 := by
  have h1 := sc_sm_u (f := fun j => sc_b (P j)) (g := fun j => sc_b (Q j)) (a := a) k ha (fun j hj hn => sc_b_i (h j hj hn))
  rw [sc_b_f hp, sc_b_t hq] at h1
  omega
theorem sc_cn_le (P : Nat → Prop) (k : Nat) : sc_sm (fun j => sc_b (P j)) k ≤ k := by
  have h := sc_sm_le (f := fun j => sc_b (P j)) (g := fun _ => 1) k (fun j _ => sc_b_le _)
  rw [sc_sm_k] at h
  omega
theorem sc_cn_lt {P : Nat → Prop} {a k : Nat} (ha : a < k) (hp : ¬ P a) : sc_sm (fun j => sc_b (P j)) k < k := by
  have h1 := sc_cn_u (P := P) (Q := fun j => P j ∨ j = a) ha hp (Or.inr rfl) (fun j _ hn => ⟨fun z => z.elim id (fun e => absurd e hn), Or.inl⟩)
  have h2 := sc_cn_le (fun j => P j ∨ j = a) k
  omega
theorem sc_cn_0 {P : Nat → Prop} {k : Nat} (h : sc_sm (fun j => sc_b (P j)) k = 0) {a : Nat} (ha : a < k) : ¬ P a := by
  intro p
  have h1 := sc_cn_u (P := fun j => P j ∧ j ≠ a) (Q := P) ha (fun z => z.2 rfl) p (fun j _ hn => ⟨fun z => ⟨z, hn⟩, fun z => z.1⟩)
  omega
/-! digits -/
def sc_vl (q : Nat → Nat) : Nat → Nat
  | 0 => 0
  | k + 1 => sc_vl q k + 3 ^ k * q k
theorem sc_vl_s (q : Nat → Nat) (k : Nat) : sc_vl q (k + 1) = sc_vl q k + 3 ^ k * q k := rfl
theorem sc_3p (k : Nat) : 0 < 3 ^ k := Nat.pow_pos (by decide)
theorem sc_vl_c {q q' : Nat → Nat} : ∀ k, (∀ r, r < k → q r = q' r) → sc_vl q k = sc_vl q' k := by
  intro k
  induction k with
  | zero => intro _; rfl
  | succ k ih =>
    intro h
    rw [sc_vl_s, sc_vl_s, ih (fun j hj => h j (by omega)), h k (by omega)]
theorem sc_vl_lt {q : Nat → Nat} : ∀ k, (∀ r, r < k → q r < 3) → sc_vl q k < 3 ^ k := by
  intro k
  induction k with
  | zero => intro _; exact (by decide : 0 < 3 ^ 0)
  | succ k ih =>
    intro h
    rw [sc_vl_s, Nat.pow_succ]
    have h1 := ih (fun j hj => h j (by omega))
    have h2 : 3 ^ k * q k ≤ 3 ^ k * 2 := Nat.mul_le_mul_left _ (by have := h k (by omega); omega)
    generalize 3 ^ k * q k = y at h2 ⊢
    generalize 3 ^ k = x at h1 h2 ⊢
    omega
theorem sc_vl_t {q : Nat → Nat} {k : Nat} (h : ∀ r, r < k → q r < 3) (x : Nat) : (sc_vl q k + 3 ^ k * x) / 3 ^ k = x := by
  rw [Nat.add_mul_div_left _ _ (sc_3p k), Nat.div_eq_of_lt (sc_vl_lt k h), Nat.zero_add]
theorem sc_vl_d {q : Nat → Nat} : ∀ k, (∀ r, r < k → q r < 3) → ∀ x r, r < k → (sc_vl q k + 3 ^ k * x) / 3 ^ r % 3 = q r := by
  intro k
  induction k with
  | zero => intro _ x r h; omega
  | succ k ih =>
    intro h x r hr
    have e : sc_vl q (k + 1) + 3 ^ (k + 1) * x = sc_vl q k + 3 ^ k * (q k + 3 * x) := by
      rw [sc_vl_s, Nat.pow_succ, Nat.mul_add, Nat.mul_assoc, Nat.add_assoc]
    rw [e]
    by_cases z : r = k
    · rw [z, sc_vl_t (fun j hj => h j (by omega))]
      have := h k (by omega)
      omega
    · exact ih (fun j hj => h j (by omega)) _ r (by omega)
theorem sc_vl_o (c : Nat) : ∀ k, sc_vl (fun r => c / 3 ^ r % 3) k + 3 ^ k * (c / 3 ^ k) = c := by
  intro k
  induction k with
  | zero => show 0 + 3 ^ 0 * (c / 3 ^ 0) = c; rw [Nat.pow_zero, Nat.div_one, Nat.one_mul, Nat.zero_add]
  | succ k ih =>
    rw [sc_vl_s, Nat.pow_succ, ← Nat.div_div_eq_div_mul, Nat.mul_assoc, Nat.add_assoc, ← Nat.mul_add, Nat.mod_add_div]
    exact ih
def sc_up (q : Nat → Nat) (p v : Nat) : Nat → Nat := fun j => if j = p then v else q j
theorem sc_up_s {q : Nat → Nat} {p v : Nat} : sc_up q p v p = v := if_pos rfl
theorem sc_up_n {q : Nat → Nat} {p v j : Nat} (h : j ≠ p) : sc_up q p v j = q j := if_neg h
theorem sc_up_lt {q : Nat → Nat} {p v b : Nat} (hq : ∀ r, q r < b) (hv : v < b) (r : Nat) : sc_up q p v r < b := by
  by_cases h : r = p
  · rw [h, sc_up_s]; exact hv
  · rw [sc_up_n h]; exact hq r
theorem sc_vl_u {q : Nat → Nat} {p v : Nat} : ∀ k, p < k → sc_vl (sc_up q p v) k + 3 ^ p * q p = sc_vl q k + 3 ^ p * v := by
  intro k
  induction k with
  | zero => intro h; omega
  | succ k ih =>
    intro h
    rw [sc_vl_s, sc_vl_s]
    by_cases e : p = k
    · subst e
      rw [sc_up_s, sc_vl_c (q := sc_up q p v) (q' := q) p (fun r hr => sc_up_n (by omega))]
      omega
    · rw [sc_up_n (fun z => e z.symm)]
      have := ih (by omega)
      omega
/-! counts: how many below k, but p, have the digit w -/
def sc_ct (q : Nat → Nat) (p w : Nat) : Nat → Nat
  | 0 => 0
  | k + 1 => sc_ct q p w k + (if k = p then 0 else sc_i (q k) w)
theorem sc_ct_e {q : Nat → Nat} {p w k : Nat} (h : k = p) : sc_ct q p w (k + 1) = sc_ct q p w k := by
  show sc_ct q p w k + (if k = p then 0 else sc_i (q k) w) = _
  rw [if_pos h, Nat.add_zero]
theorem sc_ct_n {q : Nat → Nat} {p w k : Nat} (h : k ≠ p) : sc_ct q p w (k + 1) = sc_ct q p w k + sc_i (q k) w := by
  show sc_ct q p w k + (if k = p then 0 else sc_i (q k) w) = _
  rw [if_neg h]
theorem sc_ct_c {q q' : Nat → Nat} {p w : Nat} : ∀ k, (∀ r, r < k → r ≠ p → q r = q' r) → sc_ct q p w k = sc_ct q' p w k := by
  intro k
  induction k with
  | zero => intro _; rfl
  | succ k ih =>
    intro h
    have h1 := ih (fun j hj hn => h j (by omega) hn)
    by_cases e : k = p
    · rw [sc_ct_e e, sc_ct_e e, h1]
    · rw [sc_ct_n e, sc_ct_n e, h1, h k (by omega) e]
theorem sc_ct_o {q : Nat → Nat} {p p' w : Nat} : ∀ k, k ≤ p → k ≤ p' → sc_ct q p w k = sc_ct q p' w k := by
  intro k
  induction k with
  | zero => intro _ _; rfl
  | succ k ih =>
    intro h h'
    rw [sc_ct_n (by omega), sc_ct_n (by omega), ih (by omega) (by omega)]
theorem sc_ct_t {q : Nat → Nat} {p p' w : Nat} : ∀ k, p < k → k ≤ p' → sc_ct q p w k + sc_i (q p) w = sc_ct q p' w k := by
  intro k
  induction k with
  | zero => intro h; omega
  | succ k ih =>
    intro h h'
    rw [sc_ct_n (p := p') (by omega)]
    by_cases e : k = p
    · rw [sc_ct_e e, sc_ct_o (p := p) (p' := p') k (by omega) (by omega), e]
    · rw [sc_ct_n e]
      have := ih (by omega) (by omega)
      omega
theorem sc_ct_u {q : Nat → Nat} {p v h w : Nat} (hn : p ≠ h) : ∀ k, p < k → sc_ct (sc_up q p v) h w k + sc_i (q p) w = sc_ct q h w k + sc_i v w := by
  intro k
  induction k with
  | zero => intro h; omega
  | succ k ih =>
    intro hk
    by_cases e : k = p
    · subst e
      rw [sc_ct_n hn, sc_ct_n hn, sc_up_s, sc_ct_c (q := sc_up q k v) (q' := q) k (fun r hr _ => sc_up_n (by omega))]
      omega
    · have := ih (by omega)
      by_cases z : k = h
      · rw [sc_ct_e z, sc_ct_e z]; omega
      · rw [sc_ct_n z, sc_ct_n z, sc_up_n e]; omega
theorem sc_ct_p {q : Nat → Nat} {h w : Nat} : ∀ k, sc_ct q h w k ≠ 0 → ∃ p, p < k ∧ p ≠ h ∧ q p = w := by
  intro k
  induction k with
  | zero => intro h; exact absurd rfl h
  | succ k ih =>
    intro hk
    by_cases z : k = h
    · rw [sc_ct_e z] at hk
      obtain ⟨p, h1, h2⟩ := ih hk
      exact ⟨p, by omega, h2⟩
    · rw [sc_ct_n z] at hk
      rcases sc_i_c (q k) w with ⟨e, _⟩ | ⟨_, e⟩
      · exact ⟨k, by omega, z, e⟩
      · rw [e] at hk
        obtain ⟨p, h1, h2⟩ := ih hk
        exact ⟨p, by omega, h2⟩
theorem sc_ct_q {q : Nat → Nat} {h w p : Nat} : ∀ k, p < k → p ≠ h → q p = w → sc_ct q h w k ≠ 0 := by
  intro k
  induction k with
  | zero => intro h; omega
  | succ k ih =>
    intro hk hn e
    by_cases z : p = k
    · subst z
      rw [sc_ct_n hn, sc_i_t e]; omega
    · have := ih (by omega) hn e
      by_cases z' : k = h
      · rw [sc_ct_e z']; exact this
      · rw [sc_ct_n z']; omega
theorem sc_ct_s {q : Nat → Nat} {h : Nat} (hq : ∀ r, q r < 3) : ∀ k, sc_ct q h 0 k + sc_ct q h 1 k + sc_ct q h 2 k + (if h < k then 1 else 0) = k := by
  intro k
  induction k with
  | zero => rfl
  | succ k ih =>
    by_cases z : k = h
    · rw [sc_ct_e z, sc_ct_e z, sc_ct_e z, if_pos (by omega)]
      rw [if_neg (by omega)] at ih
      omega
    · rw [sc_ct_n z, sc_ct_n z, sc_ct_n z]
      have h3 := hq k
      have h0 := sc_i_c (q k) 0
      have h1 := sc_i_c (q k) 1
      have h2 := sc_i_c (q k) 2
      by_cases y : h < k
      · rw [if_pos y] at ih; rw [if_pos (by omega)]; omega
      · rw [if_neg y] at ih; rw [if_neg (by omega)]; omega
end
section
/-! 03: concrete states, classes, and that classes are a picture of the states, forwards and backwards -/
def sc_pl (c p : Nat) : Nat := c / 3 ^ p % 3
def sc_sh (n c : Nat) : Nat := c / 3 ^ n % 3
def sc_hd (n c : Nat) : Nat := c / 3 ^ (n + 1)
def sc_lm (n : Nat) : Nat := 3 * 3 ^ n * (n + 1)
def sc_cd (q : Nat → Nat) (n s h : Nat) : Nat := sc_vl q n + 3 ^ n * s + 3 ^ (n + 1) * h
def sc_st (n : Nat) : Nat := 3 ^ (n + 1) * n
theorem sc_pl_lt (c p : Nat) : sc_pl c p < 3 := Nat.mod_lt _ (by decide)
theorem sc_sh_lt (n c : Nat) : sc_sh n c < 3 := Nat.mod_lt _ (by decide)
theorem sc_hd_e (n c : Nat) : sc_hd n c = c / 3 ^ n / 3 := by
  unfold sc_hd
  rw [Nat.pow_succ, Nat.div_div_eq_div_mul]
theorem sc_cd_e (q : Nat → Nat) (n s h : Nat) : sc_cd q n s h = sc_vl q n + 3 ^ n * (s + 3 * h) := by
  unfold sc_cd
  rw [Nat.mul_add, Nat.pow_succ, Nat.mul_assoc, Nat.add_assoc]
theorem sc_cd_p {q : Nat → Nat} {n s h r : Nat} (hq : ∀ r, q r < 3) (hr : r < n) : sc_pl (sc_cd q n s h) r = q r := by
  rw [sc_cd_e]
  exact sc_vl_d n (fun r _ => hq r) _ r hr
theorem sc_cd_t {q : Nat → Nat} {n s h : Nat} (hq : ∀ r, q r < 3) : sc_cd q n s h / 3 ^ n = s + 3 * h := by
  rw [sc_cd_e]
  exact sc_vl_t (fun r _ => hq r) _
theorem sc_cd_s {q : Nat → Nat} {n s h : Nat} (hq : ∀ r, q r < 3) (hs : s < 3) : sc_sh n (sc_cd q n s h) = s := by
  unfold sc_sh
  rw [sc_cd_t hq]; omega
theorem sc_cd_h {q : Nat → Nat} {n s h : Nat} (hq : ∀ r, q r < 3) (hs : s < 3) : sc_hd n (sc_cd q n s h) = h := by
  rw [sc_hd_e, sc_cd_t hq]; omega
theorem sc_lm_e (n : Nat) : sc_lm n = 3 ^ n * (2 + 3 * n) + 3 ^ n := by
  unfold sc_lm
  rw [Nat.mul_comm 3 (3 ^ n), Nat.mul_assoc, ← Nat.mul_succ]
  exact congrArg (fun z => 3 ^ n * z) (by omega)
theorem sc_cd_l {q : Nat → Nat} {n s h : Nat} (hq : ∀ r, q r < 3) (hs : s < 3) (hh : h ≤ n) : sc_cd q n s h < sc_lm n := by
  rw [sc_cd_e, sc_lm_e]
  have h1 := sc_vl_lt (q := q) n (fun r _ => hq r)
  have h2 : 3 ^ n * (s + 3 * h) ≤ 3 ^ n * (2 + 3 * n) := Nat.mul_le_mul_left _ (by omega)
  omega
theorem sc_cd_o (n c : Nat) : sc_cd (sc_pl c) n (sc_sh n c) (sc_hd n c) = c := by
  rw [sc_cd_e, sc_hd_e]
  unfold sc_sh
  rw [Nat.mod_add_div]
  exact sc_vl_o c n
theorem sc_hd_le {n c : Nat} (h : c < sc_lm n) : sc_hd n c ≤ n := by
  unfold sc_hd
  have h1 : c / 3 ^ (n + 1) < n + 1 := by
    rw [Nat.div_lt_iff_lt_mul (sc_3p _)]
    unfold sc_lm at h
    rw [Nat.pow_succ, Nat.mul_comm, Nat.mul_comm (3 ^ n) 3]
    exact h
  omega
/-! classes -/
def sc_nm (s h a b : Nat) : Nat := ((s * 4 + h) * 5 + a) * 5 + b
def sc_kS (C : Nat) : Nat := C / 5 / 5 / 4
def sc_kH (C : Nat) : Nat := C / 5 / 5 % 4
def sc_kA (n C : Nat) : Nat := if sc_kH C = 3 then n else n - 1
def sc_kO (n C w : Nat) : Nat := if w = 0 then sc_kA n C - C / 5 % 5 - C % 5 else if w = 1 then C / 5 % 5 else C % 5
theorem sc_nm_S {s h a b : Nat} (hh : h < 4) (ha : a < 5) (hb : b < 5) : sc_kS (sc_nm s h a b) = s := by
  unfold sc_kS sc_nm; omega
theorem sc_nm_H {s h a b : Nat} (hh : h < 4) (ha : a < 5) (hb : b < 5) : sc_kH (sc_nm s h a b) = h := by
  unfold sc_kH sc_nm; omega
theorem sc_nm_1 {s h a b : Nat} (ha : a < 5) (hb : b < 5) : sc_nm s h a b / 5 % 5 = a := by
  unfold sc_nm; omega
theorem sc_nm_2 {s h a b : Nat} (hb : b < 5) : sc_nm s h a b % 5 = b := by
  unfold sc_nm; omega
theorem sc_kO_0 (n C : Nat) : sc_kO n C 0 = sc_kA n C - C / 5 % 5 - C % 5 := rfl
theorem sc_kO_1 (n C : Nat) : sc_kO n C 1 = C / 5 % 5 := rfl
theorem sc_kO_2 (n C : Nat) : sc_kO n C 2 = C % 5 := rfl
def sc_hA (n c : Nat) : Nat := if sc_hd n c < n then sc_pl c (sc_hd n c) else 3
def sc_oW (n c w : Nat) : Nat := sc_ct (sc_pl c) (sc_hd n c) w n
def sc_cl (n c : Nat) : Nat := sc_nm (sc_sh n c) (sc_hA n c) (sc_oW n c 1) (sc_oW n c 2)
theorem sc_hA_c (n c : Nat) : (sc_hd n c < n ∧ sc_hA n c = sc_pl c (sc_hd n c) ∧ sc_hA n c < 3) ∨ (n ≤ sc_hd n c ∧ sc_hA n c = 3) := by
  unfold sc_hA
  by_cases h : sc_hd n c < n
  · rw [if_pos h]; exact Or.inl ⟨h, rfl, sc_pl_lt _ _⟩
  · rw [if_neg h]; exact Or.inr ⟨by omega, rfl⟩
theorem sc_oS (n c : Nat) : sc_oW n c 0 + sc_oW n c 1 + sc_oW n c 2 + (if sc_hd n c < n then 1 else 0) = n := sc_ct_s (sc_pl_lt c) n
theorem sc_oS' (n c : Nat) : (sc_hA n c < 3 ∧ sc_hd n c < n ∧ sc_oW n c 0 + sc_oW n c 1 + sc_oW n c 2 + 1 = n) ∨ (sc_hA n c = 3 ∧ n ≤ sc_hd n c ∧ sc_oW n c 0 + sc_oW n c 1 + sc_oW n c 2 = n) := by
  have h := sc_oS n c
  rcases sc_hA_c n c with ⟨h1, h2, h3⟩ | ⟨h1, h2⟩
  · rw [if_pos h1] at h; exact Or.inl ⟨h3, h1, h⟩
  · rw [if_neg (by omega)] at h; exact Or.inr ⟨h2, h1, h⟩
theorem sc_cl_S {n c : Nat} (hn : n ≤ 4) : sc_kS (sc_cl n c) = sc_sh n c := by
  have h := sc_oS' n c
  exact sc_nm_S (by omega) (by omega) (by omega)
theorem sc_cl_H {n c : Nat} (hn : n ≤ 4) : sc_kH (sc_cl n c) = sc_hA n c := by
  have h := sc_oS' n c
  exact sc_nm_H (by omega) (by omega) (by omega)
theorem sc_cl_1 {n c : Nat} (hn : n ≤ 4) : sc_cl n c / 5 % 5 = sc_oW n c 1 := by
  have h := sc_oS' n c
  exact sc_nm_1 (by omega) (by omega)
theorem sc_cl_2 {n c : Nat} (hn : n ≤ 4) : sc_cl n c % 5 = sc_oW n c 2 := by
  have h := sc_oS' n c
  exact sc_nm_2 (by omega)
theorem sc_cl_O {n c w : Nat} (hn : n ≤ 4) (hw : w < 3) : sc_kO n (sc_cl n c) w = sc_oW n c w := by
  have h := sc_oS' n c
  obtain rfl | rfl | rfl : w = 0 ∨ w = 1 ∨ w = 2 := by omega
  · rw [sc_kO_0, sc_cl_1 hn, sc_cl_2 hn]
    unfold sc_kA
    rw [sc_cl_H hn]
    rcases h with h | h
    · rw [if_neg (by omega)]; omega
    · rw [if_pos h.1]; omega
  · rw [sc_kO_1, sc_cl_1 hn]
  · rw [sc_kO_2, sc_cl_2 hn]
theorem sc_cl_lt {n c : Nat} (hn : n ≤ 4) : sc_cl n c < 300 := by
  have h := sc_oS' n c
  have h1 := sc_sh_lt n c
  unfold sc_cl sc_nm
  omega
theorem sc_cl_i {n c c' : Nat} (hn : n ≤ 4) (e : sc_cl n c = sc_cl n c') : sc_sh n c = sc_sh n c' ∧ sc_hA n c = sc_hA n c' ∧ ∀ w, w < 3 → sc_oW n c w = sc_oW n c' w := by
  refine ⟨?_, ?_, fun w hw => ?_⟩
  · rw [← sc_cl_S hn, ← sc_cl_S hn, e]
  · rw [← sc_cl_H hn, ← sc_cl_H hn, e]
  · rw [← sc_cl_O hn hw, ← sc_cl_O hn hw, e]
theorem sc_oW_cd {q : Nat → Nat} {n s h w : Nat} (hq : ∀ r, q r < 3) (hs : s < 3) : sc_oW n (sc_cd q n s h) w = sc_ct q h w n := by
  unfold sc_oW
  rw [sc_cd_h hq hs]
  exact sc_ct_c n (fun r hr _ => sc_cd_p hq hr)
theorem sc_hA_cd {q : Nat → Nat} {n s h : Nat} (hq : ∀ r, q r < 3) (hs : s < 3) : sc_hA n (sc_cd q n s h) = if h < n then q h else 3 := by
  unfold sc_hA
  rw [sc_cd_h hq hs]
  by_cases z : h < n
  · rw [if_pos z, if_pos z, sc_cd_p hq z]
  · rw [if_neg z, if_neg z]
theorem sc_cl_cd {q : Nat → Nat} {n s h : Nat} (hq : ∀ r, q r < 3) (hs : s < 3) : sc_cl n (sc_cd q n s h) = sc_nm s (if h < n then q h else 3) (sc_ct q h 1 n) (sc_ct q h 2 n) := by
  unfold sc_cl
  rw [sc_cd_s hq hs, sc_hA_cd hq hs, sc_oW_cd hq hs, sc_oW_cd hq hs]
/-- how many have place w in all -/
theorem sc_oT {n c w : Nat} (hw : w < 3) : sc_oW n c w + sc_i (sc_hA n c) w = sc_ct (sc_pl c) n w n := by
  rcases sc_hA_c n c with ⟨h1, h2, h3⟩ | ⟨h1, h2⟩
  · rw [h2]; exact sc_ct_t n h1 (Nat.le_refl _)
  · rw [h2, sc_i_f (by omega), Nat.add_zero]; exact sc_ct_o n h1 (Nat.le_refl _)
/-! rules -/
def sc_RO (R : Nat → Nat → Nat) : Prop := ∀ j, R 0 j < 3 ∧ R 1 j < 3 ∧ R 2 j < 4 ∧ R 3 j < 4 ∧ R 4 j < 3 ∧ R 5 j < 4 ∧ R 6 j < 5
def sc_tc (t : Nat) (a b : Prop) : Prop := (t = 1 → a) ∧ (t = 2 ∨ t = 3 → b) ∧ (t = 4 → ¬ b)
theorem sc_tc_i {t : Nat} {a a' b b' : Prop} (ha : a ↔ a') (hb : b ↔ b') : sc_tc t a b ↔ sc_tc t a' b' := by
  unfold sc_tc
  rw [ha, hb]
def sc_tk (R : Nat → Nat → Nat) (n c p i : Nat) : Prop := sc_pl c p = R 0 i ∧ (R 2 i = 3 ∨ sc_sh n c = R 2 i) ∧ sc_ct (sc_pl c) p (R 4 i) n ≤ R 5 i ∧ sc_tc (R 6 i) (sc_hd n c = n) (sc_hd n c = p)
def sc_mh (R : Nat → Nat → Nat) (n h p i : Nat) : Nat := if R 6 i = 1 then p else if R 6 i = 2 then n else h
def sc_ms (R : Nat → Nat → Nat) (s i : Nat) : Nat := if R 3 i = 3 then s else R 3 i
def sc_mk (R : Nat → Nat → Nat) (n c p i : Nat) : Nat := sc_cd (sc_up (sc_pl c) p (R 1 i)) n (sc_ms R (sc_sh n c) i) (sc_mh R n (sc_hd n c) p i)
def sc_en (R : Nat → Nat → Nat) (n C i : Nat) (b : Bool) : Prop := (b = true → sc_kH C = R 0 i) ∧ (b = false → sc_kO n C (R 0 i) ≠ 0) ∧ (R 2 i = 3 ∨ sc_kS C = R 2 i) ∧ sc_kO n C (R 4 i) + sc_i (sc_kH C) (R 4 i) ≤ R 5 i + sc_i (R 0 i) (R 4 i) ∧ sc_tc (R 6 i) (sc_kH C = 3) (b = true)
def sc_af (R : Nat → Nat → Nat) (n C i : Nat) (b : Bool) : Nat :=
  if b = true then (if R 6 i = 2 then sc_nm (sc_ms R (sc_kS C) i) 3 (sc_kO n C 1 + sc_i (R 1 i) 1) (sc_kO n C 2 + sc_i (R 1 i) 2) else sc_nm (sc_ms R (sc_kS C) i) (R 1 i) (sc_kO n C 1) (sc_kO n C 2))
  else if R 6 i = 1 then sc_nm (sc_ms R (sc_kS C) i) (R 1 i) (sc_kO n C 1 - sc_i (R 0 i) 1) (sc_kO n C 2 - sc_i (R 0 i) 2)
  else sc_nm (sc_ms R (sc_kS C) i) (sc_kH C) (sc_kO n C 1 - sc_i (R 0 i) 1 + sc_i (R 1 i) 1) (sc_kO n C 2 - sc_i (R 0 i) 2 + sc_i (R 1 i) 2)
section SYM
variable {R : Nat → Nat → Nat} {n m : Nat}
theorem sc_ms_lt {s i : Nat} (hR : sc_RO R) (hs : s < 3) : sc_ms R s i < 3 := by
  unfold sc_ms
  by_cases h : R 3 i = 3
  · rw [if_pos h]; exact hs
  · rw [if_neg h]; have := hR i; omega
theorem sc_mh_le {h p i : Nat} (hh : h ≤ n) (hp : p < n) : sc_mh R n h p i ≤ n := by
  unfold sc_mh
  by_cases h1 : R 6 i = 1
  · rw [if_pos h1]; omega
  · rw [if_neg h1]
    by_cases h2 : R 6 i = 2
    · rw [if_pos h2]; omega
    · rw [if_neg h2]; exact hh
theorem sc_mh1 {h p i : Nat} (h1 : R 6 i = 1) : sc_mh R n h p i = p := if_pos h1
theorem sc_mh2 {h p i : Nat} (h2 : R 6 i = 2) : sc_mh R n h p i = n := by
  unfold sc_mh; rw [if_neg (by omega), if_pos h2]
theorem sc_mh3 {h p i : Nat} (h1 : R 6 i ≠ 1) (h2 : R 6 i ≠ 2) : sc_mh R n h p i = h := by
  unfold sc_mh; rw [if_neg h1, if_neg h2]
theorem sc_q' {c p i : Nat} (hR : sc_RO R) : ∀ r, sc_up (sc_pl c) p (R 1 i) r < 3 := sc_up_lt (sc_pl_lt c) (hR i).2.1
theorem sc_mk_lt {c p i : Nat} (hR : sc_RO R) (hc : c < sc_lm n) (hp : p < n) : sc_mk R n c p i < sc_lm n :=
  sc_cd_l (sc_q' hR) (sc_ms_lt hR (sc_sh_lt n c)) (sc_mh_le (sc_hd_le hc) hp)
/-- the bridge: a process at the rule's place can take it if and only if the class says so -/
theorem sc_br {c p i : Nat} (hn : n ≤ 4) (hR : sc_RO R) (hc : c < sc_lm n) (hp : p < n) (e : sc_pl c p = R 0 i) : sc_tk R n c p i ↔ sc_en R n (sc_cl n c) i (decide (p = sc_hd n c)) := by
  have r := hR i
  have hl := sc_hd_le hc
  have t1 := sc_ct_t (q := sc_pl c) (p := p) (p' := n) (w := R 4 i) n hp (Nat.le_refl _)
  have t2 := sc_oT (n := n) (c := c) (w := R 4 i) r.2.2.2.2.1
  rw [e] at t1
  have k3 : sc_hA n c = 3 ↔ sc_hd n c = n := by
    have := sc_oS' n c
    omega
  have kb : (decide (p = sc_hd n c) = true) ↔ sc_hd n c = p := by
    rw [decide_eq_true_iff]; exact ⟨fun h => h.symm, fun h => h.symm⟩
  unfold sc_tk sc_en
  rw [sc_cl_H hn, sc_cl_S hn, sc_cl_O hn r.1, sc_cl_O hn r.2.2.2.2.1, sc_tc_i k3 kb]
  constructor
  · rintro ⟨_, h2, h3, h4⟩
    refine ⟨fun hb => ?_, fun hb => ?_, h2, by omega, h4⟩
    · have z : sc_hd n c = p := kb.mp hb
      unfold sc_hA
      rw [if_pos (by omega), z, e]
    · have z : p ≠ sc_hd n c := of_decide_eq_false hb
      exact sc_ct_q n hp z e
  · rintro ⟨_, _, h2, h3, h4⟩
    exact ⟨e, h2, by omega, h4⟩
theorem sc_ctp {c p v w : Nat} : sc_ct (sc_up (sc_pl c) p v) p w n = sc_ct (sc_pl c) p w n := sc_ct_c n (fun r _ hn => sc_up_n hn)
/-- forwards: what a process makes is what the class makes -/
theorem sc_fw {c p i : Nat} (hn : n ≤ 4) (hR : sc_RO R) (hc : c < sc_lm n) (hp : p < n) (h : sc_tk R n c p i) : sc_cl n (sc_mk R n c p i) = sc_af R n (sc_cl n c) i (decide (p = sc_hd n c)) := by
  have r := hR i
  have hl := sc_hd_le hc
  obtain ⟨e, _, _, t1, t2, t3⟩ := h
  unfold sc_mk sc_af
  rw [sc_cl_cd (sc_q' hR) (sc_ms_lt hR (sc_sh_lt n c)), sc_cl_H hn, sc_cl_S hn, sc_cl_O hn (by omega), sc_cl_O hn (by omega)]
  have w1 := sc_ct_t (q := sc_pl c) (p := p) (p' := n) (w := 1) n hp (Nat.le_refl _)
  have w2 := sc_ct_t (q := sc_pl c) (p := p) (p' := n) (w := 2) n hp (Nat.le_refl _)
  have u1 := sc_ct_t (q := sc_up (sc_pl c) p (R 1 i)) (p := p) (p' := n) (w := 1) n hp (Nat.le_refl _)
  have u2 := sc_ct_t (q := sc_up (sc_pl c) p (R 1 i)) (p := p) (p' := n) (w := 2) n hp (Nat.le_refl _)
  rw [sc_ctp, sc_up_s] at u1 u2
  rw [e] at w1 w2
  by_cases z : p = sc_hd n c
  · rw [if_pos (decide_eq_true z)]
    have n1 : R 6 i ≠ 1 := fun y => by have := t1 y; omega
    have o1 : sc_oW n c 1 = sc_ct (sc_pl c) p 1 n := by unfold sc_oW; rw [← z]
    have o2 : sc_oW n c 2 = sc_ct (sc_pl c) p 2 n := by unfold sc_oW; rw [← z]
    rw [o1, o2]
    by_cases y : R 6 i = 2
    · rw [if_pos y, sc_mh2 y, if_neg (Nat.lt_irrefl n), ← u1, ← u2]
    · rw [if_neg y, sc_mh3 n1 y, ← z, if_pos hp, sc_up_s, sc_ctp, sc_ctp]
  · rw [if_neg (show ¬ decide (p = sc_hd n c) = true by rw [decide_eq_true_iff]; exact z)]
    have n2 : R 6 i ≠ 2 := fun y => z (t2 (Or.inl y)).symm
    by_cases y : R 6 i = 1
    · have hh := t1 y
      have o1 : sc_oW n c 1 = sc_ct (sc_pl c) n 1 n := by unfold sc_oW; rw [hh]
      have o2 : sc_oW n c 2 = sc_ct (sc_pl c) n 2 n := by unfold sc_oW; rw [hh]
      rw [if_pos y, sc_mh1 y, if_pos hp, sc_up_s, sc_ctp, sc_ctp, o1, o2, ← w1, ← w2, Nat.add_sub_cancel, Nat.add_sub_cancel]
    · rw [if_neg y, sc_mh3 y n2]
      have x1 := sc_ct_u (q := sc_pl c) (p := p) (v := R 1 i) (h := sc_hd n c) (w := 1) z n hp
      have x2 := sc_ct_u (q := sc_pl c) (p := p) (v := R 1 i) (h := sc_hd n c) (w := 2) z n hp
      have y1 := fun y : sc_pl c p = 1 => sc_ct_q (q := sc_pl c) (h := sc_hd n c) n hp z y
      have y2 := fun y : sc_pl c p = 2 => sc_ct_q (q := sc_pl c) (h := sc_hd n c) n hp z y
      rw [e] at x1 x2 y1 y2
      have a1 : sc_ct (sc_up (sc_pl c) p (R 1 i)) (sc_hd n c) 1 n = sc_oW n c 1 - sc_i (R 0 i) 1 + sc_i (R 1 i) 1 := by
        unfold sc_oW
        rcases sc_i_c (R 0 i) 1 with ⟨q1, q2⟩ | ⟨q1, q2⟩
        · have := y1 q1; omega
        · omega
      have a2 : sc_ct (sc_up (sc_pl c) p (R 1 i)) (sc_hd n c) 2 n = sc_oW n c 2 - sc_i (R 0 i) 2 + sc_i (R 1 i) 2 := by
        unfold sc_oW
        rcases sc_i_c (R 0 i) 2 with ⟨q1, q2⟩ | ⟨q1, q2⟩
        · have := y2 q1; omega
        · omega
      have a3 : (if sc_hd n c < n then sc_up (sc_pl c) p (R 1 i) (sc_hd n c) else 3) = sc_hA n c := by
        rw [sc_up_n (fun y => z y.symm)]; rfl
      rw [a1, a2, a3]
/-- a class's rule has a process to take it -/
theorem sc_ex {c i : Nat} {b : Bool} (hn : n ≤ 4) (hR : sc_RO R) (hc : c < sc_lm n) (h : sc_en R n (sc_cl n c) i b) : ∃ p, p < n ∧ sc_tk R n c p i ∧ decide (p = sc_hd n c) = b := by
  have r := hR i
  have hl := sc_hd_le hc
  have key : ∃ p, p < n ∧ sc_pl c p = R 0 i ∧ decide (p = sc_hd n c) = b := by
    cases b with
    | true =>
      have h1 := h.1 rfl
      rw [sc_cl_H hn] at h1
      rcases sc_hA_c n c with ⟨q1, q2, q3⟩ | ⟨q1, q2⟩
      · exact ⟨sc_hd n c, q1, by rw [← q2, h1], decide_eq_true rfl⟩
      · omega
    | false =>
      have h1 := h.2.1 rfl
      rw [sc_cl_O hn r.1] at h1
      obtain ⟨p, q1, q2, q3⟩ := sc_ct_p n h1
      exact ⟨p, q1, q3, decide_eq_false q2⟩
  obtain ⟨p, h1, h2, h3⟩ := key
  refine ⟨p, h1, ?_, h3⟩
  rw [sc_br hn hR hc h1 h2, h3]
  exact h
/-- backwards, the frame: where process p0 of c' stood before -/
theorem sc_bk0 {c c' p p0 h0 i : Nat} (hn : n ≤ 4) (hR : sc_RO R) (hc : c < sc_lm n) (hp : p < n) (h : sc_tk R n c p i) (hp0 : p0 < n) (e0 : sc_pl c' p0 = R 1 i) (hh0 : h0 ≤ n)
    (s1 : sc_sh n c' = sc_ms R (sc_sh n c) i)
    (H1 : (if h0 < n then sc_up (sc_pl c') p0 (R 0 i) h0 else 3) = sc_hA n c)
    (H2 : ∀ w, w < 3 → sc_ct (sc_up (sc_pl c') p0 (R 0 i)) h0 w n = sc_oW n c w)
    (H3 : sc_hd n c' = sc_mh R n h0 p0 i) (H4 : decide (p0 = h0) = decide (p = sc_hd n c)) :
    ∃ c0 p0, c0 < sc_lm n ∧ p0 < n ∧ sc_cl n c0 = sc_cl n c ∧ sc_tk R n c0 p0 i ∧ sc_mk R n c0 p0 i = c' := by
  have r := hR i
  have hq : ∀ r, sc_up (sc_pl c') p0 (R 0 i) r < 3 := sc_up_lt (sc_pl_lt c') r.1
  have hs := sc_sh_lt n c
  have z1 : sc_cl n (sc_cd (sc_up (sc_pl c') p0 (R 0 i)) n (sc_sh n c) h0) = sc_cl n c := by
    rw [sc_cl_cd hq hs, H1, H2 1 (by omega), H2 2 (by omega)]; rfl
  have z2 : sc_cd (sc_up (sc_pl c') p0 (R 0 i)) n (sc_sh n c) h0 < sc_lm n := sc_cd_l hq hs hh0
  have z3 : sc_pl (sc_cd (sc_up (sc_pl c') p0 (R 0 i)) n (sc_sh n c) h0) p0 = R 0 i := by rw [sc_cd_p hq hp0, sc_up_s]
  refine ⟨sc_cd (sc_up (sc_pl c') p0 (R 0 i)) n (sc_sh n c) h0, p0, z2, hp0, z1, ?_, ?_⟩
  · rw [sc_br hn hR z2 hp0 z3, z1, sc_cd_h hq hs, H4, ← sc_br hn hR hc hp h.1]
    exact h
  · unfold sc_mk
    rw [sc_cd_s hq hs, sc_cd_h hq hs, ← H3, ← s1]
    refine Eq.trans ?_ (sc_cd_o n c')
    unfold sc_cd
    have v : sc_vl (sc_up (sc_pl (sc_cd (sc_up (sc_pl c') p0 (R 0 i)) n (sc_sh n c) h0)) p0 (R 1 i)) n = sc_vl (sc_pl c') n := by
      refine sc_vl_c n (fun r hr => ?_)
      by_cases y : r = p0
      · rw [y, sc_up_s, e0]
      · rw [sc_up_n y, sc_cd_p hq hr, sc_up_n y]
    unfold sc_cd at v
    rw [v]
/-- backwards: every state of the made class is made by some state of the first class -/
theorem sc_bk {c c' p i : Nat} (hn : n ≤ 4) (hR : sc_RO R) (hc : c < sc_lm n) (hc' : c' < sc_lm n) (hp : p < n) (h : sc_tk R n c p i) (e : sc_cl n c' = sc_cl n (sc_mk R n c p i)) :
    ∃ c0 p0, c0 < sc_lm n ∧ p0 < n ∧ sc_cl n c0 = sc_cl n c ∧ sc_tk R n c0 p0 i ∧ sc_mk R n c0 p0 i = c' := by
  have r := hR i
  have hl := sc_hd_le hc
  have hl' := sc_hd_le hc'
  have hq := sc_q' (c := c) (p := p) (i := i) hR
  have hms := sc_ms_lt (i := i) hR (sc_sh_lt n c)
  obtain ⟨e1, e2, e3⟩ := sc_cl_i hn e
  have f1 : sc_sh n c' = sc_ms R (sc_sh n c) i := by rw [e1]; exact sc_cd_s hq hms
  have f2 : sc_hA n c' = if sc_mh R n (sc_hd n c) p i < n then sc_up (sc_pl c) p (R 1 i) (sc_mh R n (sc_hd n c) p i) else 3 := by rw [e2]; exact sc_hA_cd hq hms
  have f3 : ∀ w, w < 3 → sc_oW n c' w = sc_ct (sc_up (sc_pl c) p (R 1 i)) (sc_mh R n (sc_hd n c) p i) w n := fun w hw => by rw [e3 w hw]; exact sc_oW_cd hq hms
  obtain ⟨t0, _, _, t1, t2, t3⟩ := id h
  by_cases z : p = sc_hd n c
  · have n1 : R 6 i ≠ 1 := fun y => by have := t1 y; omega
    have hAc : sc_hA n c = R 0 i := by
      unfold sc_hA
      rw [← z, if_pos hp, t0]
    by_cases y : R 6 i = 2
    · rw [sc_mh2 y] at f2 f3
      rw [if_neg (Nat.lt_irrefl n)] at f2
      have g1 : sc_hd n c' = n := by have := sc_oS' n c'; omega
      have g2 : sc_oW n c' (R 1 i) ≠ 0 := by
        rw [f3 _ r.2.1]
        exact sc_ct_q n hp (by omega) sc_up_s
      obtain ⟨p0, q1, q2, q3⟩ := sc_ct_p n g2
      refine sc_bk0 (p0 := p0) (h0 := p0) hn hR hc hp h q1 q3 (by omega) f1 ?_ (fun w hw => ?_) ?_ ?_
      · rw [if_pos q1, sc_up_s, hAc]
      · rw [sc_ctp]
        have x1 := sc_ct_t (q := sc_pl c') (p := p0) (p' := n) (w := w) n q1 (Nat.le_refl _)
        have x2 := sc_ct_t (q := sc_up (sc_pl c) p (R 1 i)) (p := p) (p' := n) (w := w) n hp (Nat.le_refl _)
        have x3 := f3 w hw
        rw [sc_ctp, sc_up_s] at x2
        rw [q3] at x1
        unfold sc_oW at x3 ⊢
        rw [g1] at x3
        rw [← z]
        omega
      · rw [sc_mh2 y, g1]
      · rw [decide_eq_true rfl, decide_eq_true z]
    · rw [sc_mh3 n1 y, ← z] at f2 f3
      rw [if_pos hp, sc_up_s] at f2
      rcases sc_hA_c n c' with ⟨q1, q2, q3⟩ | ⟨q1, q2⟩
      · refine sc_bk0 (p0 := sc_hd n c') (h0 := sc_hd n c') hn hR hc hp h q1 (by rw [← q2, f2]) hl' f1 ?_ (fun w hw => ?_) ?_ ?_
        · rw [if_pos q1, sc_up_s, hAc]
        · rw [sc_ctp]
          have x3 := f3 w hw
          rw [sc_ctp] at x3
          unfold sc_oW at x3 ⊢
          rw [← z]
          exact x3
        · rw [sc_mh3 n1 y]
        · rw [decide_eq_true rfl, decide_eq_true z]
      · have := r.2.1; omega
  · have n2 : R 6 i ≠ 2 := fun y => z (t2 (Or.inl y)).symm
    by_cases y : R 6 i = 1
    · have hh := t1 y
      rw [sc_mh1 y] at f2 f3
      rw [if_pos hp, sc_up_s] at f2
      rcases sc_hA_c n c' with ⟨q1, q2, q3⟩ | ⟨q1, q2⟩
      · refine sc_bk0 (p0 := sc_hd n c') (h0 := n) hn hR hc hp h q1 (by rw [← q2, f2]) (Nat.le_refl _) f1 ?_ (fun w hw => ?_) ?_ ?_
        · rw [if_neg (Nat.lt_irrefl n)]
          unfold sc_hA
          rw [if_neg (by omega)]
        · have x1 := sc_ct_t (q := sc_up (sc_pl c') (sc_hd n c') (R 0 i)) (p := sc_hd n c') (p' := n) (w := w) n q1 (Nat.le_refl _)
          have x2 := sc_ct_t (q := sc_pl c) (p := p) (p' := n) (w := w) n hp (Nat.le_refl _)
          have x3 := f3 w hw
          rw [sc_ctp] at x3
          rw [sc_ctp, sc_up_s] at x1
          rw [t0] at x2
          unfold sc_oW at x3 ⊢
          rw [hh]
          omega
        · rw [sc_mh1 y]
        · rw [decide_eq_false (by omega), decide_eq_false z]
      · have := r.2.1; omega
    · rw [sc_mh3 y n2] at f2 f3
      have g2 : sc_oW n c' (R 1 i) ≠ 0 := by
        rw [f3 _ r.2.1]
        exact sc_ct_q n hp z sc_up_s
      obtain ⟨p0, q1, q2, q3⟩ := sc_ct_p n g2
      refine sc_bk0 (p0 := p0) (h0 := sc_hd n c') hn hR hc hp h q1 q3 hl' f1 ?_ (fun w hw => ?_) ?_ ?_
      · rw [sc_up_n (fun x => q2 x.symm)]
        rw [sc_up_n (fun x => z x.symm)] at f2
        exact f2
      · have x1 := sc_ct_u (q := sc_pl c') (p := p0) (v := R 0 i) (h := sc_hd n c') (w := w) q2 n q1
        have x2 := sc_ct_u (q := sc_pl c) (p := p) (v := R 1 i) (h := sc_hd n c) (w := w) z n hp
        have x3 := f3 w hw
        rw [q3] at x1
        rw [t0] at x2
        unfold sc_oW at x3 ⊢
        omega
      · rw [sc_mh3 y n2]
      · rw [decide_eq_false q2, decide_eq_false z]
/-! the two graphs -/
def sc_S (R : Nat → Nat → Nat) (n m c c' : Nat) : Prop := ∃ p i, p < n ∧ i < m ∧ sc_tk R n c p i ∧ c' = sc_mk R n c p i
def sc_T (R : Nat → Nat → Nat) (n m C C' : Nat) : Prop := ∃ i b, i < m ∧ sc_en R n C i b ∧ C' = sc_af R n C i b
theorem sc_SF {c c' : Nat} (hn : n ≤ 4) (hR : sc_RO R) (hc : c < sc_lm n) (h : sc_S R n m c c') : c' < sc_lm n ∧ sc_T R n m (sc_cl n c) (sc_cl n c') := by
  obtain ⟨p, i, hp, hi, ht, rfl⟩ := h
  exact ⟨sc_mk_lt hR hc hp, i, decide (p = sc_hd n c), hi, (sc_br hn hR hc hp ht.1).mp ht, sc_fw hn hR hc hp ht⟩
theorem sc_SL {c C' : Nat} (hn : n ≤ 4) (hR : sc_RO R) (hc : c < sc_lm n) (h : sc_T R n m (sc_cl n c) C') : ∃ c', c' < sc_lm n ∧ sc_S R n m c c' ∧ sc_cl n c' = C' := by
  obtain ⟨i, b, hi, he, rfl⟩ := h
  obtain ⟨p, hp, ht, hb⟩ := sc_ex hn hR hc he
  refine ⟨sc_mk R n c p i, sc_mk_lt hR hc hp, ⟨p, i, hp, hi, ht, rfl⟩, ?_⟩
  rw [sc_fw hn hR hc hp ht, hb]
theorem sc_SB {c c' : Nat} (hn : n ≤ 4) (hR : sc_RO R) (hc : c < sc_lm n) (hc' : c' < sc_lm n) (h : sc_T R n m (sc_cl n c) (sc_cl n c')) : ∃ c0, c0 < sc_lm n ∧ sc_cl n c0 = sc_cl n c ∧ sc_S R n m c0 c' := by
  obtain ⟨i, b, hi, he, e⟩ := h
  obtain ⟨p, hp, ht, hb⟩ := sc_ex hn hR hc he
  rw [← hb, ← sc_fw hn hR hc hp ht] at e
  obtain ⟨c0, p0, h1, h2, h3, h4, h5⟩ := sc_bk hn hR hc hc' hp ht e
  exact ⟨c0, h1, h3, p0, i, h2, hi, h4, h5.symm⟩
theorem sc_st_e (n : Nat) : sc_st n = sc_cd (fun _ => 0) n 0 n := by
  have h : ∀ k, sc_vl (fun _ => 0) k = 0 := by
    intro k
    induction k with
    | zero => rfl
    | succ k ih => rw [sc_vl_s, ih, Nat.mul_zero]
  unfold sc_cd sc_st
  rw [h, Nat.mul_zero, Nat.zero_add]
theorem sc_st_lt (n : Nat) : sc_st n < sc_lm n := by
  rw [sc_st_e]
  exact sc_cd_l (fun _ => (by decide : 0 < 3)) (by decide) (Nat.le_refl _)
theorem sc_ct_z {h w : Nat} (hw : w ≠ 0) : ∀ k, sc_ct (fun _ => 0) h w k = 0 := by
  intro k
  induction k with
  | zero => rfl
  | succ k ih =>
    by_cases z : k = h
    · rw [sc_ct_e z, ih]
    · rw [sc_ct_n z, ih, sc_i_f (fun y => hw y.symm)]
theorem sc_st_c (n : Nat) : sc_cl n (sc_st n) = 75 := by
  rw [sc_st_e, sc_cl_cd (fun _ => (by decide : 0 < 3)) (by decide), if_neg (Nat.lt_irrefl n), sc_ct_z (by decide), sc_ct_z (by decide)]
  rfl
theorem sc_st_u {c : Nat} (hn : n ≤ 4) (hc : c < sc_lm n) (h : sc_cl n c = 75) : c = sc_st n := by
  have hl := sc_hd_le hc
  rw [← sc_st_c n] at h
  obtain ⟨e1, e2, e3⟩ := sc_cl_i hn h
  have hq : ∀ r, (fun _ : Nat => 0) r < 3 := fun _ => (by decide : 0 < 3)
  have a1 : sc_sh n (sc_st n) = 0 := by rw [sc_st_e]; exact sc_cd_s hq (by decide)
  have a2 : sc_hA n (sc_st n) = 3 := by rw [sc_st_e, sc_hA_cd hq (by decide), if_neg (Nat.lt_irrefl n)]
  have a3 : ∀ w, w ≠ 0 → sc_oW n (sc_st n) w = 0 := fun w hw => by rw [sc_st_e, sc_oW_cd hq (by decide)]; exact sc_ct_z hw n
  have b1 : sc_hd n c = n := by have := sc_oS' n c; omega
  have b2 : ∀ r, r < n → sc_pl c r = 0 := by
    intro r hr
    have h3 := sc_pl_lt c r
    by_cases z : sc_pl c r = 0
    · exact z
    · exfalso
      have x := sc_ct_q (q := sc_pl c) (h := sc_hd n c) (w := sc_pl c r) n hr (by omega) rfl
      have y := e3 (sc_pl c r) h3
      rw [a3 _ z] at y
      exact x y
  have o := sc_cd_o n c
  rw [b1, e1, a1] at o
  rw [← o, sc_st_e]
  unfold sc_cd
  rw [sc_vl_c n b2]
end SYM
end
section
/-! 04: how many codes a class has: by the kernel, over one number to the base 2048 -/
def sc_ch (l : Nat) : Nat → Nat
  | 0 => 1
  | j + 1 => sc_ch l j * (l - j) / (j + 1)
def sc_sz (n C : Nat) : Nat := (if sc_kH C = 3 then 1 else n) * sc_ch (sc_kA n C) (C / 5 % 5) * sc_ch (sc_kA n C - C / 5 % 5) (C % 5)
def sc_g (n C : Nat) : Nat := if C / 5 % 5 + C % 5 ≤ sc_kA n C then sc_sz n C else 0
def sc_N (n C : Nat) : Nat := sc_sm (fun c => sc_i (sc_cl n c) C) (sc_lm n)
theorem sc_dg_lt {B : Nat} {f : Nat → Nat} : ∀ k, (∀ j, j < k → f j < B) → sc_sm (fun j => f j * B ^ j) k < B ^ k := by
  intro k
  induction k with
  | zero => intro _; exact (by decide : 0 < 1)
  | succ k ih =>
    intro h
    rw [sc_sm_s, Nat.pow_succ, Nat.mul_comm (B ^ k) B]
    have h1 := ih (fun j hj => h j (by omega))
    have h2 : (f k + 1) * B ^ k ≤ B * B ^ k := Nat.mul_le_mul_right _ (h k (by omega))
    rw [Nat.succ_mul] at h2
    omega
theorem sc_dg {B : Nat} (hB : 0 < B) {f g : Nat → Nat} : ∀ k, (∀ j, j < k → f j < B) → (∀ j, j < k → g j < B) → sc_sm (fun j => f j * B ^ j) k = sc_sm (fun j => g j * B ^ j) k → ∀ j, j < k → f j = g j := by
  intro k
  induction k with
  | zero => intro _ _ _ j hj; omega
  | succ k ih =>
    intro hf hg e j hj
    rw [sc_sm_s, sc_sm_s] at e
    have a1 := sc_dg_lt (B := B) (f := f) k (fun j hj => hf j (by omega))
    have a2 := sc_dg_lt (B := B) (f := g) k (fun j hj => hg j (by omega))
    have hp : 0 < B ^ k := Nat.pow_pos hB
    have b1 : (sc_sm (fun j => f j * B ^ j) k + f k * B ^ k) / B ^ k = f k := by
      rw [Nat.add_mul_div_right _ _ hp, Nat.div_eq_of_lt a1, Nat.zero_add]
    have b2 : (sc_sm (fun j => g j * B ^ j) k + g k * B ^ k) / B ^ k = g k := by
      rw [Nat.add_mul_div_right _ _ hp, Nat.div_eq_of_lt a2, Nat.zero_add]
    have b3 : f k = g k := by rw [← b1, ← b2, e]
    by_cases z : j = k
    · rw [z]; exact b3
    · rw [b3] at e
      exact ih (fun j hj => hf j (by omega)) (fun j hj => hg j (by omega)) (by omega) j (by omega)
theorem sc_sm_ab (f : Nat → Nat) (a : Nat) : ∀ b, sc_sm f (a + b) = sc_sm f a + sc_sm (fun j => f (a + j)) b := by
  intro b
  induction b with
  | zero => rfl
  | succ b ih =>
    rw [show a + (b + 1) = (a + b) + 1 from rfl, sc_sm_s, sc_sm_s, ih, Nat.add_assoc]
theorem sc_sm_m (f : Nat → Nat) (a : Nat) : ∀ b, sc_sm f (a * b) = sc_sm (fun j => sc_sm (fun i => f (a * j + i)) a) b := by
  intro b
  induction b with
  | zero => rfl
  | succ b ih => rw [Nat.mul_succ, sc_sm_ab, ih, sc_sm_s]
theorem sc_h1 : sc_sm (fun t => sc_sm (fun i => 2048 ^ sc_cl 1 (3 ^ 1 * t + i)) (3 ^ 1)) (3 * (1 + 1)) = sc_sm (fun C => sc_g 1 C * 2048 ^ C) 300 := by decide +kernel
theorem sc_h2 : sc_sm (fun t => sc_sm (fun i => 2048 ^ sc_cl 2 (3 ^ 2 * t + i)) (3 ^ 2)) (3 * (2 + 1)) = sc_sm (fun C => sc_g 2 C * 2048 ^ C) 300 := by decide +kernel
theorem sc_h3 : sc_sm (fun t => sc_sm (fun i => 2048 ^ sc_cl 3 (3 ^ 3 * t + i)) (3 ^ 3)) (3 * (3 + 1)) = sc_sm (fun C => sc_g 3 C * 2048 ^ C) 300 := by decide +kernel
theorem sc_h4 : sc_sm (fun t => sc_sm (fun i => 2048 ^ sc_cl 4 (3 ^ 4 * t + i)) (3 ^ 4)) (3 * (4 + 1)) = sc_sm (fun C => sc_g 4 C * 2048 ^ C) 300 := by decide +kernel
theorem sc_gB : ∀ n, n < 5 → ∀ C, C < 300 → sc_g n C < 2048 := by decide +kernel
theorem sc_lm_le {n : Nat} (hn : n ≤ 4) : sc_lm n ≤ 1215 := by
  obtain rfl | rfl | rfl | rfl | rfl : n = 0 ∨ n = 1 ∨ n = 2 ∨ n = 3 ∨ n = 4 := by omega
  all_goals decide
theorem sc_hh {n : Nat} (h1 : 1 ≤ n) (hn : n ≤ 4) : sc_sm (fun c => 2048 ^ sc_cl n c) (sc_lm n) = sc_sm (fun C => sc_g n C * 2048 ^ C) 300 := by
  have e : sc_lm n = 3 ^ n * (3 * (n + 1)) := by
    unfold sc_lm
    rw [Nat.mul_comm 3 (3 ^ n), Nat.mul_assoc]
  rw [e, sc_sm_m]
  obtain rfl | rfl | rfl | rfl : n = 1 ∨ n = 2 ∨ n = 3 ∨ n = 4 := by omega
  · exact sc_h1
  · exact sc_h2
  · exact sc_h3
  · exact sc_h4
theorem sc_Ng {n C : Nat} (h1 : 1 ≤ n) (hn : n ≤ 4) (hC : C < 300) : sc_N n C = sc_g n C := by
  have e := sc_hh h1 hn
  rw [sc_dc (sc_cl n) (fun C => 2048 ^ C) 300 (sc_lm n) (fun c _ => sc_cl_lt hn)] at e
  refine sc_dg (B := 2048) (by decide) (f := sc_N n) (g := sc_g n) 300 (fun j _ => ?_) (fun j hj => sc_gB n (by omega) j hj) e C hC
  have h2 := sc_sm_le (f := fun c => sc_i (sc_cl n c) j) (g := fun _ => 1) (sc_lm n) (fun c _ => sc_i_le _ _)
  rw [sc_sm_k] at h2
  have h3 := sc_lm_le hn
  unfold sc_N
  omega
def sc_ok (n C : Nat) : Prop := C < 300 ∧ C / 5 % 5 + C % 5 ≤ sc_kA n C
def sc_Vd (n C : Nat) : Prop := ∃ c, c < sc_lm n ∧ sc_cl n c = C
theorem sc_Vd_ok {n C : Nat} (hn : n ≤ 4) (h : sc_Vd n C) : sc_ok n C := by
  obtain ⟨c, hc, rfl⟩ := h
  refine ⟨sc_cl_lt hn, ?_⟩
  have h := sc_oS' n c
  rw [sc_cl_1 hn, sc_cl_2 hn]
  unfold sc_kA
  rw [sc_cl_H hn]
  rcases h with h | h
  · rw [if_neg (by omega)]; omega
  · rw [if_pos h.1]; omega
theorem sc_Nz {n C : Nat} (h1 : 1 ≤ n) (hn : n ≤ 4) (h : sc_Vd n C) : sc_N n C = sc_sz n C := by
  have h2 := sc_Vd_ok hn h
  rw [sc_Ng h1 hn h2.1]
  exact if_pos h2.2
end
section
/-! 05: depths, queues and endless walks, each by local conditions; the two sides agree -/
def sc_Dt (T : Nat → Nat → Prop) (N st : Nat) (δ : Nat → Nat) : Prop :=
  δ st = 1 ∧ (∀ C, C < N → δ C = 1 → C = st) ∧ (∀ C, C < N → ∀ e, δ C = e + 2 → ∃ C0, C0 < N ∧ δ C0 = e + 1 ∧ T C0 C) ∧ (∀ C, C < N → δ C ≠ 0 → ∀ C', T C C' → δ C' ≠ 0 ∧ δ C' ≤ δ C + 1)
section GRA
variable {R : Nat → Nat → Nat} {n m : Nat} {δx δy : Nat → Nat}
theorem sc_un {c : Nat} (hn : n ≤ 4) (hR : sc_RO R) (hy : sc_Dt (sc_S R n m) (sc_lm n) (sc_st n) δy) (hx : sc_Dt (sc_T R n m) 300 75 δx) (hv : ∀ C, C < 300 → δx C ≠ 0 → sc_Vd n C) (hc : c < sc_lm n) : δy c = δx (sc_cl n c) := by
  obtain ⟨y1, y2, y3, y4⟩ := hy
  obtain ⟨x1, x2, x3, x4⟩ := hx
  have a : ∀ e c, c < sc_lm n → δy c = e + 1 → δx (sc_cl n c) ≠ 0 ∧ δx (sc_cl n c) ≤ e + 1 := by
    intro e
    induction e with
    | zero =>
      intro c hc h
      rw [y2 c hc h, sc_st_c, x1]; omega
    | succ e ih =>
      intro c hc h
      obtain ⟨c0, h0, h1, h2⟩ := y3 c hc e h
      have h3 := ih c0 h0 h1
      have h4 := x4 _ (sc_cl_lt hn) h3.1 _ (sc_SF hn hR h0 h2).2
      exact ⟨h4.1, by omega⟩
  have b : ∀ e c, c < sc_lm n → δx (sc_cl n c) = e + 1 → δy c ≠ 0 ∧ δy c ≤ e + 1 := by
    intro e
    induction e with
    | zero =>
      intro c hc h
      have h1 := x2 _ (sc_cl_lt hn) h
      rw [sc_st_u hn hc h1, y1]; omega
    | succ e ih =>
      intro c hc h
      obtain ⟨C0, h0, h1, h2⟩ := x3 _ (sc_cl_lt hn) e h
      obtain ⟨c1, h3, rfl⟩ := hv C0 h0 (by omega)
      obtain ⟨c0, h4, h5, h6⟩ := sc_SB hn hR h3 hc h2
      have h7 := ih c0 h4 (by rw [h5]; exact h1)
      have h8 := y4 c0 h4 h7.1 c h6
      exact ⟨h8.1, by omega⟩
  by_cases z : δy c = 0
  · by_cases w : δx (sc_cl n c) = 0
    · rw [z, w]
    · have := b (δx (sc_cl n c) - 1) c hc (by omega)
      omega
  · have h1 := a (δy c - 1) c hc (by omega)
    have h2 := b (δx (sc_cl n c) - 1) c hc (by omega)
    omega
/-! the queue of the component -/
def sc_Qd (n K : Nat) (q δ : Nat → Nat) : Prop :=
  0 < K ∧ K ≤ 300 ∧ (∀ j, j < K → q j < 300 ∧ δ (q j) ≠ 0 ∧ sc_Vd n (q j) ∧ δ (q j) ≤ j + 1) ∧
  (∀ f : Nat → Nat, sc_sm (fun j => f (q j)) K = sc_sm (fun C => sc_b (δ C ≠ 0) * f C) 300) ∧ (∀ i j, i ≤ j → j < K → δ (q i) ≤ δ (q j))
theorem sc_sm_p {f : Nat → Nat} : ∀ k, sc_sm f k ≠ 0 → ∃ j, j < k ∧ f j ≠ 0 := by
  intro k
  induction k with
  | zero => intro h; exact absurd rfl h
  | succ k ih =>
    intro h
    rw [sc_sm_s] at h
    by_cases z : f k = 0
    · obtain ⟨j, h1, h2⟩ := ih (by omega)
      exact ⟨j, by omega, h2⟩
    · exact ⟨k, by omega, z⟩
theorem sc_Qd_in {K C : Nat} {q δ : Nat → Nat} (h : sc_Qd n K q δ) (hC : C < 300) (hd : δ C ≠ 0) : ∃ j, j < K ∧ q j = C := by
  have h1 := h.2.2.2.1 (fun x => sc_i x C)
  have h2 : sc_sm (fun D => sc_b (δ D ≠ 0) * sc_i D C) 300 = 1 := by
    have e : sc_sm (fun D => sc_b (δ D ≠ 0) * sc_i D C) 300 = sc_sm (fun D => sc_i C D * (fun D => sc_b (δ D ≠ 0)) D) 300 := sc_sm_c 300 (fun D _ => by
      show sc_b (δ D ≠ 0) * sc_i D C = sc_i C D * sc_b (δ D ≠ 0)
      rw [Nat.mul_comm]
      by_cases z : D = C
      · rw [sc_i_t z, sc_i_t z.symm]
      · rw [sc_i_f z, sc_i_f (fun y => z y.symm)])
    rw [e, sc_sm_1 (f := fun D => sc_b (δ D ≠ 0)) hC]
    exact sc_b_t hd
  obtain ⟨j, h3, h4⟩ := sc_sm_p K (by rw [h1, h2]; decide)
  refine ⟨j, h3, ?_⟩
  rcases sc_i_c (q j) C with z | z
  · exact z.1
  · exact absurd z.2 h4
theorem sc_Qd_v {K : Nat} {q δ : Nat → Nat} (h : sc_Qd n K q δ) : ∀ C, C < 300 → δ C ≠ 0 → sc_Vd n C := by
  intro C hC hd
  obtain ⟨j, h1, rfl⟩ := sc_Qd_in h hC hd
  exact (h.2.2.1 j h1).2.2.1
/-- sums over the queue are counts over the codes -/
theorem sc_tot {K : Nat} {q : Nat → Nat} (h1 : 1 ≤ n) (hn : n ≤ 4) (hq : sc_Qd n K q δx) (hd : ∀ c, c < sc_lm n → δy c = δx (sc_cl n c)) (P : Nat → Prop) :
    sc_sm (fun j => sc_b (P (q j)) * sc_sz n (q j)) K = sc_sm (fun c => sc_b (δy c ≠ 0 ∧ P (sc_cl n c))) (sc_lm n) := by
  have a := hq.2.2.2.1 (fun C => sc_b (P C) * sc_sz n C)
  have b := sc_dc (sc_cl n) (fun C => sc_b (δx C ≠ 0) * sc_b (P C)) 300 (sc_lm n) (fun c _ => sc_cl_lt hn)
  rw [a]
  have c1 : sc_sm (fun c => sc_b (δy c ≠ 0 ∧ P (sc_cl n c))) (sc_lm n) = sc_sm (fun c => (fun C => sc_b (δx C ≠ 0) * sc_b (P C)) (sc_cl n c)) (sc_lm n) := by
    refine sc_sm_c _ (fun c hc => ?_)
    show sc_b (δy c ≠ 0 ∧ P (sc_cl n c)) = sc_b (δx (sc_cl n c) ≠ 0) * sc_b (P (sc_cl n c))
    rw [hd c hc]
    rcases sc_b_c (δx (sc_cl n c) ≠ 0) with ⟨u, e⟩ | ⟨u, e⟩
    · rw [e, Nat.one_mul]
      exact sc_b_i ⟨fun z => z.2, fun z => ⟨u, z⟩⟩
    · rw [e, Nat.zero_mul, sc_b_f (fun z => u z.1)]
  rw [c1, b]
  refine sc_sm_c _ (fun C hC => ?_)
  show sc_b (δx C ≠ 0) * (sc_b (P C) * sc_sz n C) = sc_N n C * (sc_b (δx C ≠ 0) * sc_b (P C))
  rcases sc_b_c (δx C ≠ 0) with ⟨u, e⟩ | ⟨u, e⟩
  · rw [e, Nat.one_mul, Nat.one_mul, sc_Nz h1 hn (sc_Qd_v hq C hC u), Nat.mul_comm]
  · rw [e, Nat.zero_mul, Nat.zero_mul, Nat.mul_zero]
/-- endless walks: the greatest set -/
def sc_Gf (T : Nat → Nat → Prop) (N : Nat) (V W : Nat → Prop) : Prop :=
  (∀ C, C < N → W C → V C ∧ ∃ C', C' < N ∧ T C C' ∧ W C') ∧ (∀ G : Nat → Prop, (∀ C, C < N → G C → V C ∧ ∃ C', C' < N ∧ T C C' ∧ G C') → ∀ C, C < N → G C → W C)
theorem sc_gf {Wx Wy : Nat → Prop} {c : Nat} (hn : n ≤ 4) (hR : sc_RO R) (hd : ∀ c, c < sc_lm n → δy c = δx (sc_cl n c))
    (hy : sc_Gf (sc_S R n m) (sc_lm n) (fun c => δy c ≠ 0) Wy) (hx : sc_Gf (sc_T R n m) 300 (fun C => δx C ≠ 0) Wx) (hc : c < sc_lm n) : Wy c ↔ Wx (sc_cl n c) := by
  constructor
  · intro h
    refine hx.2 (fun C => ∃ c, c < sc_lm n ∧ sc_cl n c = C ∧ Wy c) ?_ _ (sc_cl_lt hn) ⟨c, hc, rfl, h⟩
    rintro C _ ⟨c, h1, rfl, h2⟩
    obtain ⟨h3, c', h4, h5, h6⟩ := hy.1 c h1 h2
    rw [hd c h1] at h3
    exact ⟨h3, sc_cl n c', sc_cl_lt hn, (sc_SF hn hR h1 h5).2, c', h4, rfl, h6⟩
  · intro h
    refine hy.2 (fun c => Wx (sc_cl n c)) ?_ c hc h
    intro c h1 h2
    obtain ⟨h3, C', h4, h5, h6⟩ := hx.1 _ (sc_cl_lt hn) h2
    obtain ⟨c', h7, h8, rfl⟩ := sc_SL hn hR h1 h5
    dsimp only at h3 ⊢
    rw [hd c h1]
    exact ⟨h3, c', h7, h8, h6⟩
/-! the component's search -/
def sc_XI (R : Nat → Nat → Nat) (n m k K : Nat) (q δ : Nat → Nat) : Prop :=
  k ≤ K ∧ sc_Qd n K q δ ∧ δ 75 = 1 ∧ (∀ C, C < 300 → δ C = 1 → C = 75) ∧ (∀ C, C < 300 → ∀ e, δ C = e + 2 → ∃ C0, C0 < 300 ∧ δ C0 = e + 1 ∧ sc_T R n m C0 C) ∧
  (∀ j, j < K → k < K → δ (q j) ≤ δ (q k) + 1) ∧ (∀ j, j < k → ∀ C', sc_T R n m (q j) C' → δ C' ≠ 0 ∧ δ C' ≤ δ (q j) + 1)
theorem sc_XI_end {K : Nat} {q δ : Nat → Nat} (h : sc_XI R n m K K q δ) : sc_Qd n K q δ ∧ sc_Dt (sc_T R n m) 300 75 δ := by
  obtain ⟨_, h1, h2, h3, h4, _, h6⟩ := h
  refine ⟨h1, h2, h3, h4, fun C hC hd C' hT => ?_⟩
  obtain ⟨j, h7, rfl⟩ := sc_Qd_in h1 hC hd
  exact h6 j h7 C' hT
theorem sc_XI_next {k K : Nat} {q δ : Nat → Nat} (h : sc_XI R n m k K q δ) (hk : k < K) (hT : ∀ C', sc_T R n m (q k) C' → δ C' ≠ 0 ∧ δ C' ≤ δ (q k) + 1) : sc_XI R n m (k + 1) K q δ := by
  obtain ⟨_, h1, h2, h3, h4, h5, h6⟩ := h
  refine ⟨hk, h1, h2, h3, h4, fun j hj hk' => ?_, fun j hj => ?_⟩
  · have a := h5 j hj hk
    have b := h1.2.2.2.2 k (k + 1) (by omega) hk'
    omega
  · by_cases z : j = k
    · rw [z]; exact hT
    · exact h6 j (by omega)
theorem sc_XI_lt {k K C : Nat} {q δ : Nat → Nat} (h : sc_XI R n m k K q δ) (hC : C < 300) (hd : δ C = 0) : K < 300 := by
  have a := h.2.1.2.2.2.1 (fun _ => 1)
  have e : sc_sm (fun C => sc_b (δ C ≠ 0) * (fun _ => 1) C) 300 = sc_sm (fun C => sc_b (δ C ≠ 0)) 300 := sc_sm_c 300 (fun C _ => Nat.mul_one _)
  rw [e, sc_sm_k, Nat.mul_one] at a
  have b := sc_cn_lt (P := fun C => δ C ≠ 0) hC (fun z => z hd)
  omega
/-- a class met for the first time, while q k is expanded -/
theorem sc_XI_new {k K C : Nat} {q δ : Nat → Nat} (hn : n ≤ 4) (hR : sc_RO R) (h : sc_XI R n m k K q δ) (hk : k < K) (hT : sc_T R n m (q k) C) (hd : δ C = 0) :
    C < 300 ∧ sc_XI R n m k (K + 1) (sc_up q K C) (sc_up δ C (δ (q k) + 1)) ∧ (∀ D, δ D ≠ 0 → sc_up δ C (δ (q k) + 1) D = δ D) := by
  have hV : sc_Vd n C := by
    obtain ⟨c, h1, h2⟩ := (h.2.1.2.2.1 k hk).2.2.1
    rw [← h2] at hT
    obtain ⟨c', h3, _, h4⟩ := sc_SL hn hR h1 hT
    exact ⟨c', h3, h4⟩
  have hC : C < 300 := (sc_Vd_ok hn hV).1
  have hK := sc_XI_lt h hC hd
  obtain ⟨_, ⟨q1, q2, q3, q4, q5⟩, h2, h3, h4, h5, h6⟩ := h
  have old : ∀ D, δ D ≠ 0 → sc_up δ C (δ (q k) + 1) D = δ D := fun D hD => sc_up_n (fun z => hD (by rw [z]; exact hd))
  have oq : ∀ j, j < K → sc_up q K C j = q j := fun j hj => sc_up_n (by omega)
  have od : ∀ j, j < K → sc_up δ C (δ (q k) + 1) (sc_up q K C j) = δ (q j) := fun j hj => by rw [oq j hj]; exact old _ (q3 j hj).2.1
  have nd : sc_up δ C (δ (q k) + 1) (sc_up q K C K) = δ (q k) + 1 := by rw [sc_up_s, sc_up_s]
  have pk := (q3 k hk).2.1
  refine ⟨hC, ⟨by omega, ⟨by omega, by omega, fun j hj => ?_, fun f => ?_, fun i j hij hj => ?_⟩, ?_, fun D hD e => ?_, fun D hD e he => ?_, fun j hj _ => ?_, fun j hj C' hC' => ?_⟩, old⟩
  · by_cases z : j = K
    · rw [z, nd, sc_up_s]
      have := (q3 k hk).2.2.2
      exact ⟨hC, by omega, hV, by omega⟩
    · rw [od j (by omega), oq j (by omega)]
      exact q3 j (by omega)
  · rw [sc_sm_s, sc_up_s, sc_sm_c (f := fun j => f (sc_up q K C j)) (g := fun j => f (q j)) K (fun j hj => by show f (sc_up q K C j) = f (q j); rw [oq j hj]), q4 f]
    have u := sc_sm_u (f := fun D => sc_b (δ D ≠ 0) * f D) (g := fun D => sc_b (sc_up δ C (δ (q k) + 1) D ≠ 0) * f D) (a := C) 300 hC (fun D _ hne => by
      show sc_b (sc_up δ C (δ (q k) + 1) D ≠ 0) * f D = sc_b (δ D ≠ 0) * f D
      rw [sc_up_n hne])
    rw [sc_b_f (P := δ C ≠ 0) (fun z => z hd), sc_b_t (P := sc_up δ C (δ (q k) + 1) C ≠ 0) (by rw [sc_up_s]; omega), Nat.zero_mul, Nat.one_mul] at u
    omega
  · by_cases z : j = K
    · rw [z, nd]
      by_cases y : i = K
      · rw [y, nd]; exact Nat.le_refl _
      · rw [od i (by omega)]
        exact h5 i (by omega) hk
    · rw [od j (by omega), od i (by omega)]
      exact q5 i j hij (by omega)
  · rw [old 75 (by omega)]; exact h2
  · by_cases z : D = C
    · rw [z, sc_up_s] at e
      omega
    · rw [sc_up_n z] at e
      exact h3 D hD e
  · by_cases z : D = C
    · rw [z, sc_up_s] at he
      refine ⟨q k, (q3 k hk).1, ?_, by rw [z]; exact hT⟩
      rw [old _ pk]
      omega
    · rw [sc_up_n z] at he
      obtain ⟨C0, u1, u2, u3⟩ := h4 D hD e he
      exact ⟨C0, u1, by rw [old C0 (by omega)]; exact u2, u3⟩
  · rw [od k hk]
    by_cases z : j = K
    · rw [z, nd]; exact Nat.le_refl _
    · rw [od j (by omega)]
      exact h5 j (by omega) hk
  · have hjK : j < K := by omega
    rw [oq j hjK] at hC'
    have := h6 j hj C' hC'
    rw [od j hjK, old C' this.1]
    exact this
theorem sc_XI_0 (hn : n ≤ 4) : sc_XI R n m 0 1 (fun _ => 75) (sc_up (fun _ => 0) 75 1) := by
  have v : sc_Vd n 75 := ⟨sc_st n, sc_st_lt n, sc_st_c n⟩
  have e1 : sc_up (fun _ => 0) 75 1 75 = 1 := sc_up_s
  have e0 : ∀ C, C ≠ 75 → sc_up (fun _ => 0) 75 1 C = 0 := fun C hC => sc_up_n hC
  refine ⟨by omega, ⟨by omega, by omega, fun j hj => ⟨(by decide : 75 < 300), by rw [e1]; omega, v, by rw [e1]; omega⟩, fun f => ?_, fun i j _ _ => Nat.le_refl _⟩, e1, fun C hC h => ?_, fun C hC e h => ?_, fun j hj _ => Nat.le_succ _, fun j hj => by omega⟩
  · have e : sc_sm (fun C => sc_b (sc_up (fun _ => 0) 75 1 C ≠ 0) * f C) 300 = sc_sm (fun C => sc_i 75 C * f C) 300 := sc_sm_c 300 (fun C _ => by
      show sc_b (sc_up (fun _ => 0) 75 1 C ≠ 0) * f C = sc_i 75 C * f C
      by_cases z : C = 75
      · rw [sc_b_t (by rw [z, e1]; decide), sc_i_t z.symm]
      · rw [sc_b_f (fun y => y (e0 C z)), sc_i_f (fun y => z y.symm)])
    rw [e, sc_sm_1 (f := f) (by decide)]
    show sc_sm (fun j => f 75) 0 + f 75 = f 75
    exact Nat.zero_add _
  · by_cases z : C = 75
    · exact z
    · rw [e0 C z] at h; omega
  · by_cases z : C = 75
    · rw [z, e1] at h; omega
    · rw [e0 C z] at h; omega
/-! the reference's search -/
noncomputable def sc_cY (n : Nat) (δ : Nat → Nat) : Nat := sc_sm (fun c => sc_b (δ c ≠ 0)) (sc_lm n)
/-- in round d, before code k: those of depth below d, and those of depth d below k, have been spread -/
def sc_YI (R : Nat → Nat → Nat) (n m d k : Nat) (δ : Nat → Nat) : Prop :=
  δ (sc_st n) = 1 ∧ (∀ c, c < sc_lm n → δ c = 1 → c = sc_st n) ∧ (∀ c, c < sc_lm n → ∀ e, δ c = e + 2 → ∃ c0, c0 < sc_lm n ∧ δ c0 = e + 1 ∧ sc_S R n m c0 c) ∧
  (∀ c, c < sc_lm n → δ c ≤ d + 2) ∧ (∀ c, c < sc_lm n → δ c ≠ 0 → (δ c ≤ d ∨ (δ c = d + 1 ∧ c < k)) → ∀ c', sc_S R n m c c' → δ c' ≠ 0 ∧ δ c' ≤ δ c + 1)
/-- what the flag 'more' says -/
def sc_YM (n d : Nat) (z : Nat) (δ : Nat → Nat) : Prop := (z = 0 ∧ (∀ c, c < sc_lm n → δ c ≤ d + 1) ∧ d + 1 ≤ sc_cY n δ) ∨ (z = 1 ∧ d + 2 ≤ sc_cY n δ)
theorem sc_YI_end {d : Nat} {δ : Nat → Nat} (h : sc_YI R n m d (sc_lm n) δ) (hz : ∀ c, c < sc_lm n → δ c ≤ d + 1) : sc_Dt (sc_S R n m) (sc_lm n) (sc_st n) δ := by
  obtain ⟨h1, h2, h3, _, h5⟩ := h
  refine ⟨h1, h2, h3, fun c hc hd => h5 c hc hd ?_⟩
  have := hz c hc
  omega
theorem sc_YI_round {d : Nat} {δ : Nat → Nat} (h : sc_YI R n m d (sc_lm n) δ) : sc_YI R n m (d + 1) 0 δ := by
  obtain ⟨h1, h2, h3, h4, h5⟩ := h
  refine ⟨h1, h2, h3, fun c hc => ?_, fun c hc hd hk => h5 c hc hd ?_⟩
  · have := h4 c hc; omega
  · omega
theorem sc_YI_skip {d k : Nat} {δ : Nat → Nat} (h : sc_YI R n m d k δ) (hk : δ k ≠ d + 1) : sc_YI R n m d (k + 1) δ := by
  obtain ⟨h1, h2, h3, h4, h5⟩ := h
  refine ⟨h1, h2, h3, h4, fun c hc hd hj => h5 c hc hd ?_⟩
  rcases hj with hj | ⟨hj, hl⟩
  · exact Or.inl hj
  · refine Or.inr ⟨hj, ?_⟩
    have : c ≠ k := fun z => hk (by rw [← z]; exact hj)
    omega
theorem sc_YI_next {d k : Nat} {δ : Nat → Nat} (h : sc_YI R n m d k δ) (hk : δ k = d + 1) (hS : ∀ c', sc_S R n m k c' → δ c' ≠ 0 ∧ δ c' ≤ d + 2) : sc_YI R n m d (k + 1) δ := by
  obtain ⟨h1, h2, h3, h4, h5⟩ := h
  refine ⟨h1, h2, h3, h4, fun c hc hd hj => ?_⟩
  by_cases z : c = k
  · rw [z, hk]; exact hS
  · refine h5 c hc hd ?_
    omega
theorem sc_YI_new {d k t : Nat} {δ : Nat → Nat} (h : sc_YI R n m d k δ) (hk : δ k = d + 1) (hkl : k < sc_lm n) (ht : t < sc_lm n) (hS : sc_S R n m k t) (hd : δ t = 0) :
    sc_YI R n m d k (sc_up δ t (d + 2)) ∧ (∀ D, δ D ≠ 0 → sc_up δ t (d + 2) D = δ D) ∧ sc_cY n (sc_up δ t (d + 2)) = sc_cY n δ + 1 := by
  obtain ⟨h1, h2, h3, h4, h5⟩ := h
  have old : ∀ D, δ D ≠ 0 → sc_up δ t (d + 2) D = δ D := fun D hD => sc_up_n (fun z => hD (by rw [z]; exact hd))
  refine ⟨⟨?_, fun c hc e => ?_, fun c hc e he => ?_, fun c hc => ?_, fun c hc hc0 hj c' hc' => ?_⟩, old, ?_⟩
  · rw [old _ (by omega)]; exact h1
  · by_cases z : c = t
    · rw [z, sc_up_s] at e; omega
    · rw [sc_up_n z] at e; exact h2 c hc e
  · by_cases z : c = t
    · rw [z, sc_up_s] at he
      exact ⟨k, hkl, by rw [old _ (by omega)]; omega, by rw [z]; exact hS⟩
    · rw [sc_up_n z] at he
      obtain ⟨c0, u1, u2, u3⟩ := h3 c hc e he
      exact ⟨c0, u1, by rw [old c0 (by omega)]; exact u2, u3⟩
  · by_cases z : c = t
    · rw [z, sc_up_s]; omega
    · rw [sc_up_n z]; exact h4 c hc
  · by_cases z : c = t
    · rw [z, sc_up_s] at hj; omega
    · rw [sc_up_n z] at hc0 hj ⊢
      have := h5 c hc hc0 hj c' hc'
      rw [old c' this.1]
      exact this
  · unfold sc_cY
    exact sc_cn_u (P := fun c => δ c ≠ 0) (Q := fun c => sc_up δ t (d + 2) c ≠ 0) ht (fun z => z hd) (by show sc_up δ t (d + 2) t ≠ 0; rw [sc_up_s]; omega) (fun j _ hj => by show sc_up δ t (d + 2) j ≠ 0 ↔ δ j ≠ 0; rw [sc_up_n hj])
theorem sc_YI_0 (hn : n ≤ 4) : sc_YI R n m 0 0 (sc_up (fun _ => 0) (sc_st n) 1) ∧ 1 ≤ sc_cY n (sc_up (fun _ => 0) (sc_st n) 1) := by
  have e1 : sc_up (fun _ => 0) (sc_st n) 1 (sc_st n) = 1 := sc_up_s
  have e0 : ∀ C, C ≠ sc_st n → sc_up (fun _ => 0) (sc_st n) 1 C = 0 := fun C hC => sc_up_n hC
  refine ⟨⟨e1, fun c _ h => ?_, fun c _ e h => ?_, fun c _ => ?_, fun c _ h1 h2 => ?_⟩, ?_⟩
  · by_cases z : c = sc_st n
    · exact z
    · rw [e0 c z] at h; omega
  · by_cases z : c = sc_st n
    · rw [z, e1] at h; omega
    · rw [e0 c z] at h; omega
  · by_cases z : c = sc_st n
    · rw [z, e1]; omega
    · rw [e0 c z]; omega
  · exfalso; omega
  · unfold sc_cY
    have := sc_cn_u (P := fun _ => False) (Q := fun c => sc_up (fun _ => 0) (sc_st n) 1 c ≠ 0) (sc_st_lt n) id (by show sc_up (fun _ => 0) (sc_st n) 1 (sc_st n) ≠ 0; rw [e1]; decide) (fun j _ hj => ⟨fun z => z (e0 j hj), fun z => z.elim⟩)
    omega
end GRA
end
section
/-! 06: the component's helpers: power, limit, load, classOf, sizeOf, enabled, after -/
def sc_rA (f : Nat → Nat) : Nat → Int32 := fun j => nI (f j)
theorem sc_rA_a (f : Nat → Nat) {i : Nat} (h : i < 2 ^ 31) : sc_rA f (nI i).toNatClampNeg = nI (f i) := by
  rw [nI_clamp h]; rfl
def sc_bI : Bool → Int32
  | true => 1
  | false => 0
def sc_L (n C : Nat) (ot : Nat → Int32) : Prop := ∀ w, w < 3 → ot w = nI (sc_kO n C w)
theorem sc_num (a b c d : Nat) : ((((((nI a * 4) + nI b) * 5) + nI c) * 5) + nI d) = nI (sc_nm a b c d) := by
  show ((((((nI a * nI 4) + nI b) * nI 5) + nI c) * nI 5) + nI d) = nI (sc_nm a b c d)
  rw [pk_mul, nI_add, pk_mul, nI_add, pk_mul, nI_add]; rfl
theorem sc_p31 : (5 : Nat) < 2 ^ 31 := by decide
section XA
variable {n m ac : Nat} {R A : Nat → Nat → Nat} {sh ho kn ex : Int32} {dp qu av ot : Nat → Int32}
theorem sx_pow4 {post : Int32 → Prop} (hn : n ≤ 4) (h : post (nI (3 ^ n))) : ∀ d i, i + d = n → wX_power_4 post (nI n) (d + 1) (nI (3 ^ i)) (nI i) := by
  intro d
  induction d with
  | zero =>
    intro i hi
    have e : i = n := by omega
    subst e
    exact br_t (nI_le (Nat.le_refl _) (by omega)) h
  | succ d ih =>
    intro i hi
    refine br_f (nI_ge (by omega) (by omega)) (br_f (nI_ge (b := 4) (by omega) (by decide)) ?_)
    refine nm_r (e' := nI (3 ^ (i + 1))) ?_ (nm_r (nI_1 i) (ih (i + 1) (by omega)))
    rw [Nat.pow_succ, ← pk_mul]; rfl
theorem sx_power {post : Int32 → Prop} (hn : n ≤ 4) (h : post (nI (3 ^ n))) : wpX_power post (nI n) := ⟨n + 1, sx_pow4 hn h n 0 (by omega)⟩
theorem sx_limit {post : Int32 → Prop} (hn : n ≤ 4) (h : post (nI (sc_lm n))) : wpX_limit post (sh, ho, (nI n), (nI m), (nI ac), kn, ex, (sc_rA (R 0)), (sc_rA (R 1)), (sc_rA (R 2)), (sc_rA (R 3)), (sc_rA (R 4)), (sc_rA (R 5)), (sc_rA (R 6)), (sc_rA (A 0)), (sc_rA (A 1)), (sc_rA (A 2)), dp, qu, av, ot) := by
  refine sx_power (post := fun r => post ((3 * r) * (nI n + 1))) hn ?_
  have e : (3 * nI (3 ^ n)) * (nI n + 1) = nI (sc_lm n) := by
    show (nI 3 * nI (3 ^ n)) * (nI n + 1) = nI (sc_lm n)
    rw [nI_1, pk_mul, pk_mul]; rfl
  show post ((3 * nI (3 ^ n)) * (nI n + 1))
  rw [e]; exact h
theorem sx_isCode {post : Int32 → Prop} {x : Int32} (hn : n ≤ 4) (h0 : (∀ c, c < sc_lm n → x ≠ nI c) → post 0) (h1 : ∀ c, c < sc_lm n → x = nI c → post 1) : wpX_isCode post (sh, ho, (nI n), (nI m), (nI ac), kn, ex, (sc_rA (R 0)), (sc_rA (R 1)), (sc_rA (R 2)), (sc_rA (R 3)), (sc_rA (R 4)), (sc_rA (R 5)), (sc_rA (R 6)), (sc_rA (A 0)), (sc_rA (A 1)), (sc_rA (A 2)), dp, qu, av, ot) x := by
  have hl := sc_lm_le hn
  unfold wpX_isCode
  dsimp only
  refine sx_limit hn ?_
  show (x < 0 → post 0) ∧ (¬ x < 0 → ((nI (sc_lm n) ≤ x → post 0) ∧ (¬ nI (sc_lm n) ≤ x → post 1)))
  rcases pk_ix x (n := sc_lm n) (by omega) with z | z | ⟨j, hj, rfl⟩
  · refine br_t z (h0 (fun c hc e => ?_))
    rw [e] at z
    exact nI_pos (by omega) z
  · have y : ¬ x < 0 := by
      rw [Int32.not_lt]
      exact Int32.le_trans (nI_pos' (by omega)) z
    refine br_f y (br_t z (h0 (fun c hc e => ?_)))
    rw [e, nI_leI (by omega) (by omega)] at z
    omega
  · exact br_f (nI_pos (by omega)) (br_f (nI_ge hj (by omega)) (h1 j hj rfl))
theorem sx_load {post : SX → Prop} {C : Nat} (h1 : 1 ≤ n) (hn : n ≤ 4) (hk : sc_ok n C) (h : ∀ ot', sc_L n C ot' → post ((nI (sc_kS C)), (nI (sc_kH C)), (nI n), (nI m), (nI ac), kn, ex, (sc_rA (R 0)), (sc_rA (R 1)), (sc_rA (R 2)), (sc_rA (R 3)), (sc_rA (R 4)), (sc_rA (R 5)), (sc_rA (R 6)), (sc_rA (A 0)), (sc_rA (A 1)), (sc_rA (A 2)), dp, qu, av, ot')) : wpX_load post (sh, ho, (nI n), (nI m), (nI ac), kn, ex, (sc_rA (R 0)), (sc_rA (R 1)), (sc_rA (R 2)), (sc_rA (R 3)), (sc_rA (R 4)), (sc_rA (R 5)), (sc_rA (R 6)), (sc_rA (A 0)), (sc_rA (A 1)), (sc_rA (A 2)), dp, qu, av, ot) (nI C) := by
  have hC := hk.1
  have a1 := pk_rem (a := C) (d := 5) (by omega) (by decide) (by decide)
  have a2 := pk_div (a := C) (d := 5) (by omega) (by decide) (by decide)
  have a3 := pk_rem (a := C / 5) (d := 5) (by omega) (by decide) (by decide)
  have a4 := pk_div (a := C / 5) (d := 5) (by omega) (by decide) (by decide)
  have a5 := pk_andN (n := C / 5 / 5) (by omega) (m := 3) 2 (by decide)
  have a6 := pk_shrN (n := C / 5 / 5) (by omega) ((2 : Int32) &&& 31) 2 (by decide)
  have e1 : upd (upd ot 2 (nI (C % 5))) 1 (nI (C / 5 % 5)) 1 = nI (C / 5 % 5) := pk_us
  have e2 : upd (upd ot 2 (nI (C % 5))) 1 (nI (C / 5 % 5)) 2 = nI (C % 5) := by rw [pk_un (by decide), pk_us]
  have key : ∀ z, z = sc_kA n C → sc_L n C (upd (upd (upd ot 2 (nI (C % 5))) 1 (nI (C / 5 % 5))) 0 ((nI z - nI (C / 5 % 5)) - nI (C % 5))) := by
    intro z hz w hw
    have hk2 := hk.2
    obtain rfl | rfl | rfl : w = 0 ∨ w = 1 ∨ w = 2 := by omega
    · rw [pk_us, pk_sub (by omega), pk_sub (by omega), sc_kO_0, hz]
    · rw [pk_un (by decide), e1, sc_kO_1]
    · rw [pk_un (by decide), e2, sc_kO_2]
  refine ⟨by decide, nm_r (congrArg (upd ot 2) a1) ⟨by decide, nm_r a2 ⟨by decide, nm_r (congrArg (upd (upd ot 2 (nI (C % 5))) 1) a3) ⟨by decide, nm_r a4 (nm_r a5 (nm_r a6 ?_))⟩⟩⟩⟩
  refine pk_eq (sc_kH C) 3 (fun z => ?_) (fun z => ?_) rfl rfl (by unfold sc_kH; omega)
  · refine nm_r (e' := upd (upd (upd ot 2 (nI (C % 5))) 1 (nI (C / 5 % 5))) 0 ((nI n - nI (C / 5 % 5)) - nI (C % 5))) (by rw [e1, e2]) (h _ (key n ?_))
    unfold sc_kA; rw [if_pos z]
  · have e3 : nI n - 1 = nI n - nI 1 := rfl
    refine nm_r (e' := upd (upd (upd ot 2 (nI (C % 5))) 1 (nI (C / 5 % 5))) 0 ((nI (n - 1) - nI (C / 5 % 5)) - nI (C % 5))) (by rw [e1, e2, e3, pk_sub h1]) (h _ (key (n - 1) ?_))
    unfold sc_kA; rw [if_neg z]
/-! classOf -/
theorem sx_cl43 {post : Int32 → SX → Prop} {c : Nat} (hn : n ≤ 4) (hc : c < sc_lm n) (h : ∀ ot', (∀ w, w < 3 → ot' w = nI (sc_oW n c w)) → post (nI (sc_cl n c)) ((nI (sc_sh n c)), (nI (sc_hA n c)), (nI n), (nI m), (nI ac), kn, ex, (sc_rA (R 0)), (sc_rA (R 1)), (sc_rA (R 2)), (sc_rA (R 3)), (sc_rA (R 4)), (sc_rA (R 5)), (sc_rA (R 6)), (sc_rA (A 0)), (sc_rA (A 1)), (sc_rA (A 2)), dp, qu, av, ot')) :
    ∀ d i ot, i + d = n → (∀ w, w < 3 → ot w = nI (sc_ct (sc_pl c) (sc_hd n c) w i)) → wX_classOf_43 post (nI (sc_hd n c)) sh (nI n) (nI m) (nI ac) kn ex (d + 1) (nI (c / 3 ^ i)) (nI i) (nI (if sc_hd n c < i then sc_pl c (sc_hd n c) else 3)) (sc_rA (R 0)) (sc_rA (R 1)) (sc_rA (R 2)) (sc_rA (R 3)) (sc_rA (R 4)) (sc_rA (R 5)) (sc_rA (R 6)) (sc_rA (A 0)) (sc_rA (A 1)) (sc_rA (A 2)) dp qu av ot := by
  have hl := sc_lm_le hn
  have hh := sc_hd_le hc
  have hb : ∀ i, c / 3 ^ i < 2 ^ 31 := fun i => by have := Nat.div_le_self c (3 ^ i); omega
  intro d
  induction d with
  | zero =>
    intro i ot hi hot
    have e : i = n := by omega
    subst e
    refine br_t (nI_le (Nat.le_refl _) (by omega)) ⟨by decide, nm_r (pk_rem (d := 3) (hb i) (by decide) (by decide)) ?_⟩
    have e1 : (((((nI (sc_sh i c) * 4 + nI (sc_hA i c)) * 5) + ot 1) * 5) + ot 2) = nI (sc_cl i c) := by
      rw [hot 1 (by omega), hot 2 (by omega), sc_num]; rfl
    show post (((((nI (sc_sh i c) * 4 + nI (sc_hA i c)) * 5) + ot 1) * 5) + ot 2) _
    rw [e1]
    exact h ot hot
  | succ d ih =>
    intro i ot hi hot
    have e2 : nI (c / 3 ^ i) / 3 = nI (c / 3 ^ (i + 1)) := by
      rw [Nat.pow_succ, ← Nat.div_div_eq_div_mul]
      exact pk_div (d := 3) (hb i) (by decide) (by decide)
    have hp := sc_pl_lt c i
    refine br_f (nI_ge (by omega) (by omega)) ⟨by decide, nm_r (e' := nI (sc_pl c i)) (pk_rem (d := 3) (hb i) (by decide) (by decide)) ⟨by decide, nm_r e2 ?_⟩⟩
    refine pk_eq i (sc_hd n c) (fun z => ?_) (fun z => ?_)
    · refine nm_r (nI_1 i) ?_
      have e3 : sc_pl c i = if sc_hd n c < i + 1 then sc_pl c (sc_hd n c) else 3 := by rw [if_pos (by omega), z]
      rw [e3]
      exact ih (i + 1) ot (by omega) (fun w hw => by rw [sc_ct_e z]; exact hot w hw)
    · refine ⟨pk_in (sc_pl c i) 3 hp, pk_in (sc_pl c i) 3 hp, nm_e (nm_r (nI_1 i) ?_)⟩
      have e4 : (if sc_hd n c < i then sc_pl c (sc_hd n c) else 3) = if sc_hd n c < i + 1 then sc_pl c (sc_hd n c) else 3 := by
        by_cases y : sc_hd n c < i
        · rw [if_pos y, if_pos (by omega)]
        · rw [if_neg y, if_neg (by omega)]
      rw [e4]
      refine ih (i + 1) _ (by omega) (fun w hw => ?_)
      rw [nI_clamp (by omega), sc_ct_n z]
      by_cases y : w = sc_pl c i
      · rw [y, pk_us, hot _ hp, nI_1, sc_i_t rfl]
      · rw [pk_un y, hot w hw, sc_i_f (fun x => y x.symm), Nat.add_zero]
theorem sx_classOf {post : Int32 → SX → Prop} {c : Nat} (hn : n ≤ 4) (hc : c < sc_lm n) (h : ∀ ot', sc_L n (sc_cl n c) ot' → post (nI (sc_cl n c)) ((nI (sc_kS (sc_cl n c))), (nI (sc_kH (sc_cl n c))), (nI n), (nI m), (nI ac), kn, ex, (sc_rA (R 0)), (sc_rA (R 1)), (sc_rA (R 2)), (sc_rA (R 3)), (sc_rA (R 4)), (sc_rA (R 5)), (sc_rA (R 6)), (sc_rA (A 0)), (sc_rA (A 1)), (sc_rA (A 2)), dp, qu, av, ot')) : wpX_classOf post (sh, ho, (nI n), (nI m), (nI ac), kn, ex, (sc_rA (R 0)), (sc_rA (R 1)), (sc_rA (R 2)), (sc_rA (R 3)), (sc_rA (R 4)), (sc_rA (R 5)), (sc_rA (R 6)), (sc_rA (A 0)), (sc_rA (A 1)), (sc_rA (A 2)), dp, qu, av, ot) (nI c) := by
  have hl := sc_lm_le hn
  have h3 : 3 ^ n < 2 ^ 20 := Nat.lt_of_le_of_lt (Nat.pow_le_pow_right (by decide) hn) (by decide)
  have h3p := sc_3p n
  have e3 : 3 * nI (3 ^ n) = nI (3 ^ (n + 1)) := by
    show nI 3 * nI (3 ^ n) = nI (3 ^ (n + 1))
    rw [pk_mul, Nat.pow_succ, Nat.mul_comm]
  have hp1 : 3 ^ (n + 1) < 2 ^ 31 := by rw [Nat.pow_succ]; omega
  refine sx_power (post := fun r => ¬ (3 * r) = 0 ∧ _) hn ?_
  refine ⟨?_, nm_r (e' := nI (sc_hd n c)) ?_ (nm_e (nm_e (nm_e ⟨n + 1, ?_⟩)))⟩
  · rw [e3]; exact nI_ne0 (sc_3p _) hp1
  · rw [e3]; exact pk_div (by omega) (sc_3p _) hp1
  · have e0 : nI (c / 3 ^ 0) = nI c := by rw [Nat.pow_zero, Nat.div_one]
    have e1 : nI (if sc_hd n c < 0 then sc_pl c (sc_hd n c) else 3) = 3 := by rw [if_neg (by omega)]; rfl
    have k := sx_cl43 (post := post) (m := m) (ac := ac) (R := R) (A := A) (sh := sh) (kn := kn) (ex := ex) (dp := dp) (qu := qu) (av := av) hn hc (fun ot' ho' => by
      have := h ot' (fun w hw => by rw [sc_cl_O hn hw]; exact ho' w hw)
      rw [sc_cl_S hn, sc_cl_H hn] at this
      exact this) n 0 (upd (upd (upd ot 0 0) 1 0) 2 0) (by omega) (fun w hw => by
        show _ = nI 0
        obtain rfl | rfl | rfl : w = 0 ∨ w = 1 ∨ w = 2 := by omega
        all_goals rfl)
    rw [e0, e1] at k
    exact k
/-! sizeOf -/
theorem sc_ch_b : ∀ l, l < 5 → ∀ j, j < 5 → sc_ch l j * (l - j) < 100 := by decide
theorem sx_ch4 {post : Int32 → Prop} {l k : Nat} (hl : l ≤ 4) (hk : k ≤ l) (h : post (nI (sc_ch l k))) : ∀ d j, j + d = k → wX_choose_4 post (nI l) (nI k) (d + 1) (nI (sc_ch l j)) (nI (j + 1)) := by
  intro d
  induction d with
  | zero =>
    intro j hj
    have e : j = k := by omega
    subst e
    exact br_t (nI_lt (by omega) (by omega)) h
  | succ d ih =>
    intro j hj
    refine br_f (nI_nlt (by omega) (by omega)) (br_f (nI_nlt (a := 4) (by omega) (by decide)) ⟨nI_ne0 (by omega) (by omega), nm_r (e' := nI (sc_ch l (j + 1))) ?_ (nm_r (nI_1 _) (ih (j + 1) (by omega)))⟩)
    have hb := sc_ch_b l (by omega) j (by omega)
    rw [pk_sub (by omega), nI_1, show l - (j + 1) + 1 = l - j from by omega, pk_mul, pk_div (by omega) (by omega) (by omega)]
    rfl
theorem sx_choose {post : Int32 → Prop} {l k : Nat} (hl : l ≤ 4) (hk : k ≤ l) (h : post (nI (sc_ch l k))) : wpX_choose post (nI l) (nI k) := ⟨k + 1, sx_ch4 hl hk h k 0 (by omega)⟩
theorem sx_sz32 {post : Int32 → SX → Prop} {C a : Nat} (hn : n ≤ 4) (hk : sc_ok n C) (hL : sc_L n C ot) (h : post (nI (a * sc_ch (sc_kA n C) (C / 5 % 5) * sc_ch (sc_kA n C - C / 5 % 5) (C % 5))) (sh, ho, (nI n), (nI m), (nI ac), kn, ex, (sc_rA (R 0)), (sc_rA (R 1)), (sc_rA (R 2)), (sc_rA (R 3)), (sc_rA (R 4)), (sc_rA (R 5)), (sc_rA (R 6)), (sc_rA (A 0)), (sc_rA (A 1)), (sc_rA (A 2)), dp, qu, av, ot)) : wX_sizeOf_32 post (nI a) (nI (sc_kA n C)) sh ho (nI n) (nI m) (nI ac) kn ex (sc_rA (R 0)) (sc_rA (R 1)) (sc_rA (R 2)) (sc_rA (R 3)) (sc_rA (R 4)) (sc_rA (R 5)) (sc_rA (R 6)) (sc_rA (A 0)) (sc_rA (A 1)) (sc_rA (A 2)) dp qu av ot := by
  have l1 : ot 1 = nI (C / 5 % 5) := hL 1 (by decide)
  have l2 : ot 2 = nI (C % 5) := hL 2 (by decide)
  have hA : sc_kA n C ≤ 4 := by unfold sc_kA; split <;> omega
  have hk2 := hk.2
  unfold wX_sizeOf_32
  rw [l1, l2]
  refine sx_choose hA (by omega) (nm_r (pk_mul _ _) (nm_r (pk_sub (by omega)) ?_))
  refine sx_choose (by omega) (by omega) ?_
  rw [pk_mul]
  exact h
theorem sx_size {post : Int32 → SX → Prop} {C : Nat} (h1 : 1 ≤ n) (hn : n ≤ 4) (hk : sc_ok n C) (h : ∀ ot', sc_L n C ot' → post (nI (sc_sz n C)) ((nI (sc_kS C)), (nI (sc_kH C)), (nI n), (nI m), (nI ac), kn, ex, (sc_rA (R 0)), (sc_rA (R 1)), (sc_rA (R 2)), (sc_rA (R 3)), (sc_rA (R 4)), (sc_rA (R 5)), (sc_rA (R 6)), (sc_rA (A 0)), (sc_rA (A 1)), (sc_rA (A 2)), dp, qu, av, ot')) : wpX_sizeOf post (sh, ho, (nI n), (nI m), (nI ac), kn, ex, (sc_rA (R 0)), (sc_rA (R 1)), (sc_rA (R 2)), (sc_rA (R 3)), (sc_rA (R 4)), (sc_rA (R 5)), (sc_rA (R 6)), (sc_rA (A 0)), (sc_rA (A 1)), (sc_rA (A 2)), dp, qu, av, ot) (nI C) := by
  unfold wpX_sizeOf
  dsimp only
  refine sx_load h1 hn hk (fun ot' hL => ?_)
  have hh := h ot' hL
  unfold sc_sz at hh
  refine pk_eq (sc_kH C) 3 (fun z => ?_) (fun z => ?_) rfl rfl (by unfold sc_kH; omega)
  · have e : sc_kA n C = n := by unfold sc_kA; rw [if_pos z]
    rw [if_pos z] at hh
    have k := sx_sz32 (a := 1) hn hk hL hh
    rw [e] at k
    exact k
  · have e : sc_kA n C = n - 1 := by unfold sc_kA; rw [if_neg z]
    rw [if_neg z] at hh
    have k := sx_sz32 (a := n) hn hk hL hh
    rw [e] at k
    exact nm_r (pk_sub (b := 1) h1) k
end XA
end
section
/-! 07: the component's enabled and after -/
section XB
variable {n m ac : Nat} {R A : Nat → Nat → Nat} {sh ho kn ex : Int32} {dp qu av ot : Nat → Int32}
theorem sx_nb (b : Bool) : narrow .boolean (.int (sc_bI b)) = .int (sc_bI b) := by
  cases b <;> rfl
theorem sx_en111 {post : Int32 → Prop} {i N1 N2 k : Nat} {b : Bool} (hi : i < 12) (hR : sc_RO R) (hN : N2 ≤ N1) (hN1 : N1 < 100) (hk : k < 4)
    (h1 : N1 ≤ R 5 i + N2 → sc_tc (R 6 i) (k = 3) (b = true) → post 1) (h0 : ¬ (N1 ≤ R 5 i + N2 ∧ sc_tc (R 6 i) (k = 3) (b = true)) → post 0) :
    wX_enabled_111 post (nI i) (sc_bI b) (nI N2) (nI N1) sh (nI k) (nI n) (nI m) (nI ac) kn ex (sc_rA (R 0)) (sc_rA (R 1)) (sc_rA (R 2)) (sc_rA (R 3)) (sc_rA (R 4)) (sc_rA (R 5)) (sc_rA (R 6)) (sc_rA (A 0)) (sc_rA (A 1)) (sc_rA (A 2)) dp qu av ot := by
  have r := hR i
  have hi' : i < 2 ^ 31 := by omega
  have e5 : sc_rA (R 5) (nI i).toNatClampNeg = nI (R 5 i) := sc_rA_a _ hi'
  have e6 : sc_rA (R 6) (nI i).toNatClampNeg = nI (R 6 i) := sc_rA_a _ hi'
  refine nm_r (pk_sub hN) ⟨pk_in i 12 hi, ?_⟩
  refine pk_le (N1 - N2) (R 5 i) (fun z => ⟨pk_in i 12 hi, nm_r e6 ?_⟩) (fun z => h0 (fun y => by omega)) rfl e5
  have z' : N1 ≤ R 5 i + N2 := by omega
  refine pk_eq (R 6 i) 1 (fun t => ?_) (fun t1 => ?_)
  · refine pk_eq k 3 (fun y => ?_) (fun y => ?_)
    · exact h1 z' ⟨fun _ => y, fun x => by omega, fun x => by omega⟩
    · exact h0 (fun x => y (x.2.1 t))
  · have own : (R 6 i = 2 ∨ R 6 i = 3) → (narrow .boolean (.int (sc_bI b)) = .int (sc_bI b) ∧ post (sc_bI b)) := by
      intro t
      refine ⟨sx_nb b, ?_⟩
      cases b with
      | true => exact h1 z' ⟨fun x => absurd x t1, fun _ => rfl, fun x => by omega⟩
      | false => exact h0 (fun x => absurd (x.2.2.1 t) (by decide))
    refine pk_eq (R 6 i) 2 (fun t => own (Or.inl t)) (fun t2 => ?_)
    refine pk_eq (R 6 i) 3 (fun t => own (Or.inr t)) (fun t3 => ?_)
    refine pk_eq (R 6 i) 0 (fun t => ?_) (fun t0 => ?_)
    · exact h1 z' ⟨fun x => absurd x t1, fun x => by omega, fun x => by omega⟩
    · cases b with
      | true => exact br_f (by decide) (h0 (fun x => (x.2.2.2 (by omega)) rfl))
      | false => exact br_t rfl (h1 z' ⟨fun x => absurd x t1, fun x => by omega, fun _ => by decide⟩)
theorem sx_en33 {post : Int32 → Prop} {i C : Nat} {b : Bool} (hi : i < 12) (hn : n ≤ 4) (hR : sc_RO R) (hk : sc_ok n C) (hL : sc_L n C ot)
    (g1 : b = true → sc_kH C = R 0 i) (g2 : b = false → sc_kO n C (R 0 i) ≠ 0) (h1 : sc_en R n C i b → post 1) (h0 : ¬ sc_en R n C i b → post 0) :
    wX_enabled_33 post (nI i) (sc_bI b) (nI (R 0 i)) (nI (sc_kS C)) (nI (sc_kH C)) (nI n) (nI m) (nI ac) kn ex (sc_rA (R 0)) (sc_rA (R 1)) (sc_rA (R 2)) (sc_rA (R 3)) (sc_rA (R 4)) (sc_rA (R 5)) (sc_rA (R 6)) (sc_rA (A 0)) (sc_rA (A 1)) (sc_rA (A 2)) dp qu av ot := by
  have r := hR i
  have hi' : i < 2 ^ 31 := by omega
  have e2 : sc_rA (R 2) (nI i).toNatClampNeg = nI (R 2 i) := sc_rA_a _ hi'
  have e4 : sc_rA (R 4) (nI i).toNatClampNeg = nI (R 4 i) := sc_rA_a _ hi'
  have hC := hk.1
  have hkH : sc_kH C < 4 := by unfold sc_kH; omega
  have hkS : sc_kS C < 3 := by unfold sc_kS; omega
  have hkO : sc_kO n C (R 4 i) < 50 := by
    unfold sc_kO sc_kA
    split
    · split <;> omega
    · split <;> omega
  have hN : sc_i (R 0 i) (R 4 i) ≤ sc_kO n C (R 4 i) + sc_i (sc_kH C) (R 4 i) := by
    rcases sc_i_c (R 0 i) (R 4 i) with ⟨y, e⟩ | ⟨y, e⟩
    · cases b with
      | true => rw [g1 rfl, sc_i_t y]; have := sc_i_le (R 0 i) (R 4 i); omega
      | false => have := g2 rfl; rw [y] at this; have := sc_i_le (R 0 i) (R 4 i); omega
    · omega
  have hi2 := sc_i_le (sc_kH C) (R 4 i)
  have j58 : (R 2 i = 3 ∨ sc_kS C = R 2 i) → wX_enabled_58 post (nI i) (sc_bI b) (nI (R 0 i)) (nI (sc_kS C)) (nI (sc_kH C)) (nI n) (nI m) (nI ac) kn ex (sc_rA (R 0)) (sc_rA (R 1)) (sc_rA (R 2)) (sc_rA (R 3)) (sc_rA (R 4)) (sc_rA (R 5)) (sc_rA (R 6)) (sc_rA (A 0)) (sc_rA (A 1)) (sc_rA (A 2)) dp qu av ot := by
    intro hs
    have fin : wX_enabled_111 post (nI i) (sc_bI b) (nI (sc_i (R 0 i) (R 4 i))) (nI (sc_kO n C (R 4 i) + sc_i (sc_kH C) (R 4 i))) (nI (sc_kS C)) (nI (sc_kH C)) (nI n) (nI m) (nI ac) kn ex (sc_rA (R 0)) (sc_rA (R 1)) (sc_rA (R 2)) (sc_rA (R 3)) (sc_rA (R 4)) (sc_rA (R 5)) (sc_rA (R 6)) (sc_rA (A 0)) (sc_rA (A 1)) (sc_rA (A 2)) dp qu av ot :=
      sx_en111 hi hR hN (by omega) hkH (fun x y => h1 ⟨g1, g2, hs, x, y⟩) (fun x => h0 (fun y => x ⟨y.2.2.2.1, y.2.2.2.2⟩))
    have j91 : ∀ z, z = sc_i (sc_kH C) (R 4 i) → wX_enabled_91 post (nI i) (sc_bI b) (nI (R 0 i)) (nI z) (nI (sc_kO n C (R 4 i))) (nI (sc_kS C)) (nI (sc_kH C)) (nI n) (nI m) (nI ac) kn ex (sc_rA (R 0)) (sc_rA (R 1)) (sc_rA (R 2)) (sc_rA (R 3)) (sc_rA (R 4)) (sc_rA (R 5)) (sc_rA (R 6)) (sc_rA (A 0)) (sc_rA (A 1)) (sc_rA (A 2)) dp qu av ot := by
      intro z hz
      rw [hz]
      refine nm_r (nI_add _ _) ⟨pk_in i 12 hi, ?_⟩
      refine pk_eq (R 0 i) (R 4 i) (fun y => ?_) (fun y => ?_) rfl e4
      · rw [sc_i_t y] at fin; exact fin
      · rw [sc_i_f y] at fin; exact fin
    refine ⟨pk_in i 12 hi, pk_in (R 4 i) 3 r.2.2.2.2.1 e4, nm_r (e' := nI (sc_kO n C (R 4 i))) ?_ ⟨pk_in i 12 hi, ?_⟩⟩
    · rw [e4, nI_clamp (by omega)]; exact hL _ r.2.2.2.2.1
    · refine pk_eq (sc_kH C) (R 4 i) (fun y => ?_) (fun y => ?_) rfl e4
      · exact j91 1 (sc_i_t y).symm
      · exact j91 0 (sc_i_f y).symm
  refine ⟨pk_in i 12 hi, ?_⟩
  refine pk_eq (R 2 i) 3 (fun y => j58 (Or.inl y)) (fun y => ⟨pk_in i 12 hi, ?_⟩) e2
  refine pk_eq (R 2 i) (sc_kS C) (fun x => j58 (Or.inr x.symm)) (fun x => h0 (fun z => ?_)) e2
  rcases z.2.2.1 with w | w
  · exact y w
  · exact x w.symm
theorem sx_en {post : Int32 → Prop} {i C : Nat} (b : Bool) (hi : i < 12) (hn : n ≤ 4) (hR : sc_RO R) (hk : sc_ok n C) (hL : sc_L n C ot)
    (h1 : sc_en R n C i b → post 1) (h0 : ¬ sc_en R n C i b → post 0) : wpX_enabled post ((nI (sc_kS C)), (nI (sc_kH C)), (nI n), (nI m), (nI ac), kn, ex, (sc_rA (R 0)), (sc_rA (R 1)), (sc_rA (R 2)), (sc_rA (R 3)), (sc_rA (R 4)), (sc_rA (R 5)), (sc_rA (R 6)), (sc_rA (A 0)), (sc_rA (A 1)), (sc_rA (A 2)), dp, qu, av, ot) (nI i) (sc_bI b) := by
  have r := hR i
  have hC := hk.1
  have hkH : sc_kH C < 4 := by unfold sc_kH; omega
  have e0 : sc_rA (R 0) (nI i).toNatClampNeg = nI (R 0 i) := sc_rA_a _ (by omega)
  have eo : ot (nI (R 0 i)).toNatClampNeg = nI (sc_kO n C (R 0 i)) := by rw [nI_clamp (by omega)]; exact hL _ r.1
  have hkO : sc_kO n C (R 0 i) < 50 := by
    unfold sc_kO sc_kA
    split
    · split <;> omega
    · split <;> omega
  refine ⟨pk_in i 12 hi, nm_r e0 ?_⟩
  cases b with
  | false =>
    refine br_t rfl ⟨pk_in (R 0 i) 3 r.1, ?_⟩
    refine pk_eq (sc_kO n C (R 0 i)) 0 (fun y => h0 (fun z => z.2.1 rfl y)) (fun y => ?_) eo
    exact sx_en33 (b := false) hi hn hR hk hL (fun x => absurd x (by decide)) (fun _ => y) h1 h0
  | true =>
    refine br_f (by decide) ?_
    refine pk_eq (sc_kH C) (R 0 i) (fun y => ?_) (fun y => h0 (fun z => y (z.1 rfl)))
    exact sx_en33 (b := true) hi hn hR hk hL (fun _ => y) (fun x => absurd x (by decide)) h1 h0
/-! after -/
theorem sx_af164 {post : Int32 → Prop} {i a b h s : Nat} (hi : i < 12) (hR : sc_RO R) (hp : post (nI (sc_nm (sc_ms R s i) h a b))) : wX_after_164 post (nI i) (nI a) (nI b) (nI h) (nI s) ho (nI n) (nI m) (nI ac) kn ex (sc_rA (R 0)) (sc_rA (R 1)) (sc_rA (R 2)) (sc_rA (R 3)) (sc_rA (R 4)) (sc_rA (R 5)) (sc_rA (R 6)) (sc_rA (A 0)) (sc_rA (A 1)) (sc_rA (A 2)) dp qu av ot := by
  have r := hR i
  have e3 : sc_rA (R 3) (nI i).toNatClampNeg = nI (R 3 i) := sc_rA_a _ (by omega)
  refine ⟨pk_in i 12 hi, ?_⟩
  refine pk_eq (R 3 i) 3 (fun y => ?_) (fun y => ⟨pk_in i 12 hi, ?_⟩) e3
  · unfold sc_ms at hp
    rw [if_pos y, ← sc_num] at hp
    exact hp
  · unfold sc_ms at hp
    rw [if_neg y, ← sc_num] at hp
    rw [e3]
    exact hp
theorem sx_af129j {post : Int32 → Prop} {i a b h t s : Nat} (hi : i < 12) (hR : sc_RO R) (ht : t < 3) (hp : post (nI (sc_nm (sc_ms R s i) h (a + sc_i t 1) (b + sc_i t 2)))) : wX_after_129 post (nI i) (nI a) (nI b) (nI h) (nI t) 1 (nI s) ho (nI n) (nI m) (nI ac) kn ex (sc_rA (R 0)) (sc_rA (R 1)) (sc_rA (R 2)) (sc_rA (R 3)) (sc_rA (R 4)) (sc_rA (R 5)) (sc_rA (R 6)) (sc_rA (A 0)) (sc_rA (A 1)) (sc_rA (A 2)) dp qu av ot := by
  have fin := sx_af164 (n := n) (m := m) (ac := ac) (A := A) (ho := ho) (kn := kn) (ex := ex) (dp := dp) (qu := qu) (av := av) (ot := ot) hi hR hp
  have j161 : ∀ z, z = sc_i t 2 → wX_after_161 post (nI i) (nI (a + sc_i t 1)) (nI h) (nI z) (nI b) (nI s) ho (nI n) (nI m) (nI ac) kn ex (sc_rA (R 0)) (sc_rA (R 1)) (sc_rA (R 2)) (sc_rA (R 3)) (sc_rA (R 4)) (sc_rA (R 5)) (sc_rA (R 6)) (sc_rA (A 0)) (sc_rA (A 1)) (sc_rA (A 2)) dp qu av ot := by
    intro z hz
    rw [hz]
    exact nm_r (nI_add _ _) fin
  have j146 : ∀ z, z = sc_i t 1 → wX_after_146 post (nI i) (nI b) (nI h) (nI t) (nI z) (nI a) (nI s) ho (nI n) (nI m) (nI ac) kn ex (sc_rA (R 0)) (sc_rA (R 1)) (sc_rA (R 2)) (sc_rA (R 3)) (sc_rA (R 4)) (sc_rA (R 5)) (sc_rA (R 6)) (sc_rA (A 0)) (sc_rA (A 1)) (sc_rA (A 2)) dp qu av ot := by
    intro z hz
    rw [hz]
    refine nm_r (nI_add _ _) ?_
    exact pk_eq t 2 (fun y => j161 1 (sc_i_t y).symm) (fun y => j161 0 (sc_i_f y).symm)
  refine br_f (by decide) ?_
  exact pk_eq t 1 (fun y => j146 1 (sc_i_t y).symm) (fun y => j146 0 (sc_i_f y).symm)
theorem sx_af129n {post : Int32 → Prop} {i a b h t s : Nat} (hi : i < 12) (hR : sc_RO R) (hp : post (nI (sc_nm (sc_ms R s i) h a b))) : wX_after_129 post (nI i) (nI a) (nI b) (nI h) (nI t) 0 (nI s) ho (nI n) (nI m) (nI ac) kn ex (sc_rA (R 0)) (sc_rA (R 1)) (sc_rA (R 2)) (sc_rA (R 3)) (sc_rA (R 4)) (sc_rA (R 5)) (sc_rA (R 6)) (sc_rA (A 0)) (sc_rA (A 1)) (sc_rA (A 2)) dp qu av ot := 
  br_t rfl (sx_af164 hi hR hp)
theorem sx_af {post : Int32 → Prop} {i C : Nat} (b : Bool) (hi : i < 12) (hR : sc_RO R) (hk : sc_ok n C) (hL : sc_L n C ot) (he : sc_en R n C i b)
    (hp : post (nI (sc_af R n C i b))) : wpX_after post ((nI (sc_kS C)), (nI (sc_kH C)), (nI n), (nI m), (nI ac), kn, ex, (sc_rA (R 0)), (sc_rA (R 1)), (sc_rA (R 2)), (sc_rA (R 3)), (sc_rA (R 4)), (sc_rA (R 5)), (sc_rA (R 6)), (sc_rA (A 0)), (sc_rA (A 1)), (sc_rA (A 2)), dp, qu, av, ot) (nI i) (sc_bI b) := by
  have r := hR i
  have hC := hk.1
  have e0 : sc_rA (R 0) (nI i).toNatClampNeg = nI (R 0 i) := sc_rA_a _ (by omega)
  have e1 : sc_rA (R 1) (nI i).toNatClampNeg = nI (R 1 i) := sc_rA_a _ (by omega)
  have e6 : sc_rA (R 6) (nI i).toNatClampNeg = nI (R 6 i) := sc_rA_a _ (by omega)
  unfold sc_af at hp
  refine nm_r (hL 1 (by decide)) (nm_r (hL 2 (by decide)) ⟨pk_in i 12 hi, nm_r e1 ?_⟩)
  cases b with
  | true =>
    rw [if_pos rfl] at hp
    refine br_f (by decide) ⟨pk_in i 12 hi, ?_⟩
    refine pk_eq (R 6 i) 2 (fun y => ⟨pk_in i 12 hi, br_t ?_ ?_⟩) (fun y => ⟨pk_in i 12 hi, br_f ?_ ?_⟩) e6
    · rw [e6, y]; rfl
    · rw [if_pos y] at hp
      exact sx_af129j hi hR r.2.1 hp
    · rw [e6]; exact fun z => y ((nI_eq (a := R 6 i) (b := 2) (by omega) (by decide)).mp z)
    · rw [if_neg y] at hp
      exact sx_af129n hi hR hp
  | false =>
    rw [if_neg (by decide)] at hp
    have g := he.2.1 rfl
    have o1 : sc_i (R 0 i) 1 ≤ sc_kO n C 1 := by
      rcases sc_i_c (R 0 i) 1 with ⟨y, e⟩ | ⟨y, e⟩
      · rw [y] at g; omega
      · omega
    have o2 : sc_i (R 0 i) 2 ≤ sc_kO n C 2 := by
      rcases sc_i_c (R 0 i) 2 with ⟨y, e⟩ | ⟨y, e⟩
      · rw [y] at g; omega
      · omega
    have j109 : ∀ z, z = sc_i (R 0 i) 2 → wX_after_109 post (nI i) (nI (sc_kO n C 1 - sc_i (R 0 i) 1)) (nI (sc_kH C)) (nI (R 1 i)) 1 (nI z) (nI (sc_kO n C 2)) (nI (sc_kS C)) (nI (sc_kH C)) (nI n) (nI m) (nI ac) kn ex (sc_rA (R 0)) (sc_rA (R 1)) (sc_rA (R 2)) (sc_rA (R 3)) (sc_rA (R 4)) (sc_rA (R 5)) (sc_rA (R 6)) (sc_rA (A 0)) (sc_rA (A 1)) (sc_rA (A 2)) dp qu av ot := by
      intro z hz
      rw [hz]
      refine nm_r (pk_sub o2) ⟨pk_in i 12 hi, ?_⟩
      refine pk_eq (R 6 i) 1 (fun y => ?_) (fun y => ?_) e6
      · rw [if_pos y] at hp
        exact sx_af129n hi hR hp
      · rw [if_neg y] at hp
        exact sx_af129j hi hR r.2.1 hp
    have j90 : ∀ z, z = sc_i (R 0 i) 1 → wX_after_90 post (nI i) (nI (sc_kO n C 2)) (nI (sc_kH C)) (nI (R 1 i)) 1 (nI z) (nI (sc_kO n C 1)) (nI (sc_kS C)) (nI (sc_kH C)) (nI n) (nI m) (nI ac) kn ex (sc_rA (R 0)) (sc_rA (R 1)) (sc_rA (R 2)) (sc_rA (R 3)) (sc_rA (R 4)) (sc_rA (R 5)) (sc_rA (R 6)) (sc_rA (A 0)) (sc_rA (A 1)) (sc_rA (A 2)) dp qu av ot := by
      intro z hz
      rw [hz]
      refine nm_r (pk_sub o1) ⟨pk_in i 12 hi, ?_⟩
      exact pk_eq (R 0 i) 2 (fun y => j109 1 (sc_i_t y).symm) (fun y => j109 0 (sc_i_f y).symm) e0
    refine br_t rfl ⟨pk_in i 12 hi, ?_⟩
    exact pk_eq (R 0 i) 1 (fun y => j90 1 (sc_i_t y).symm) (fun y => j90 0 (sc_i_f y).symm) e0
end XB
end
section
/-! 08: the component's choicesHere and rings -/
noncomputable def sc_cC (R : Nat → Nat → Nat) (n C : Nat) : Nat → Nat := sc_sm (fun i => sc_b (sc_en R n C i true) + sc_b (sc_en R n C i false) * sc_kO n C (R 0 i))
def sc_AO (A : Nat → Nat → Nat) : Prop := ∀ j, A 0 j < 3 ∧ A 1 j ≤ 4 ∧ A 2 j < 4
def sc_r1 (A : Nat → Nat → Nat) (n C a : Nat) : Prop := A 1 a ≤ sc_kO n C (A 0 a) + sc_i (sc_kH C) (A 0 a) ∧ (A 2 a = 3 ∨ A 2 a = sc_kS C)
def sc_rg (A : Nat → Nat → Nat) (n ac C : Nat) : Prop := ∃ a, a < ac ∧ sc_r1 A n C a
theorem sc_kO_b {n C w : Nat} (hn : n ≤ 4) : sc_kO n C w < 50 := by
  unfold sc_kO sc_kA
  split
  · split <;> omega
  · split <;> omega
section XC
variable {n m ac : Nat} {R A : Nat → Nat → Nat} {sh ho kn ex : Int32} {dp qu av ot : Nat → Int32}
theorem sx_ch4' {post : Int32 → Prop} {C : Nat} (hm : m ≤ 12) (hn : n ≤ 4) (hR : sc_RO R) (hk : sc_ok n C) (hL : sc_L n C ot) (h : post (nI (sc_cC R n C m))) :
    ∀ d i, i + d = m → wX_choicesHere_4 post (nI (sc_kS C)) (nI (sc_kH C)) (nI n) (nI m) (nI ac) kn ex (sc_rA (R 0)) (sc_rA (R 1)) (sc_rA (R 2)) (sc_rA (R 3)) (sc_rA (R 4)) (sc_rA (R 5)) (sc_rA (R 6)) (sc_rA (A 0)) (sc_rA (A 1)) (sc_rA (A 2)) dp qu av ot (d + 1) (nI (sc_cC R n C i)) (nI i) := by
  intro d
  induction d with
  | zero =>
    intro i hi
    have e : i = m := by omega
    subst e
    exact br_t (nI_le (Nat.le_refl _) (by omega)) h
  | succ d ih =>
    intro i hi
    have r := hR i
    have e0 : sc_rA (R 0) (nI i).toNatClampNeg = nI (R 0 i) := sc_rA_a _ (by omega)
    have nx := ih (i + 1) (by omega)
    have j24 : ∀ v, v + sc_b (sc_en R n C i false) * sc_kO n C (R 0 i) = sc_cC R n C (i + 1) → wX_choicesHere_24 post (wX_choicesHere_4 post (nI (sc_kS C)) (nI (sc_kH C)) (nI n) (nI m) (nI ac) kn ex (sc_rA (R 0)) (sc_rA (R 1)) (sc_rA (R 2)) (sc_rA (R 3)) (sc_rA (R 4)) (sc_rA (R 5)) (sc_rA (R 6)) (sc_rA (A 0)) (sc_rA (A 1)) (sc_rA (A 2)) dp qu av ot (d + 1)) (nI v) (nI i) (nI (sc_kS C)) (nI (sc_kH C)) (nI n) (nI m) (nI ac) kn ex (sc_rA (R 0)) (sc_rA (R 1)) (sc_rA (R 2)) (sc_rA (R 3)) (sc_rA (R 4)) (sc_rA (R 5)) (sc_rA (R 6)) (sc_rA (A 0)) (sc_rA (A 1)) (sc_rA (A 2)) dp qu av ot := by
      intro v hv
      refine sx_en false (by omega) hn hR hk hL (fun e => ?_) (fun e => ?_)
      · rw [sc_b_t e, Nat.one_mul] at hv
        refine br_f (by decide) ⟨pk_in i 12 (by omega), pk_in (R 0 i) 3 r.1 e0, nm_r (e' := nI (v + sc_kO n C (R 0 i))) ?_ (nm_r (nI_1 i) ?_)⟩
        · rw [e0, nI_clamp (by omega), hL _ r.1, nI_add]
        · rw [hv]; exact nx
      · rw [sc_b_f e, Nat.zero_mul, Nat.add_zero] at hv
        refine br_t rfl (nm_r (nI_1 i) ?_)
        rw [hv]; exact nx
    have es : sc_cC R n C (i + 1) = sc_cC R n C i + (sc_b (sc_en R n C i true) + sc_b (sc_en R n C i false) * sc_kO n C (R 0 i)) := rfl
    refine br_f (nI_ge (by omega) (by omega)) ?_
    refine sx_en true (by omega) hn hR hk hL (fun e => ?_) (fun e => ?_)
    · refine br_f (by decide) (nm_r (nI_1 _) (j24 _ ?_))
      rw [es, sc_b_t e]; omega
    · refine br_t rfl (j24 _ ?_)
      rw [es, sc_b_f e]; omega
theorem sx_chH {post : Int32 → Prop} {C : Nat} (hm : m ≤ 12) (hn : n ≤ 4) (hR : sc_RO R) (hk : sc_ok n C) (hL : sc_L n C ot) (h : post (nI (sc_cC R n C m))) : wpX_choicesHere post ((nI (sc_kS C)), (nI (sc_kH C)), (nI n), (nI m), (nI ac), kn, ex, (sc_rA (R 0)), (sc_rA (R 1)), (sc_rA (R 2)), (sc_rA (R 3)), (sc_rA (R 4)), (sc_rA (R 5)), (sc_rA (R 6)), (sc_rA (A 0)), (sc_rA (A 1)), (sc_rA (A 2)), dp, qu, av, ot) :=
  ⟨m + 1, sx_ch4' hm hn hR hk hL h m 0 (by omega)⟩
theorem sx_rg7 {post : Int32 → SX → Prop} {C : Nat} (ha : ac ≤ 4) (hn : n ≤ 4) (hA : sc_AO A) (hk : sc_ok n C) (hL : sc_L n C ot) (h1 : sc_rg A n ac C → post 1 ((nI (sc_kS C)), (nI (sc_kH C)), (nI n), (nI m), (nI ac), kn, ex, (sc_rA (R 0)), (sc_rA (R 1)), (sc_rA (R 2)), (sc_rA (R 3)), (sc_rA (R 4)), (sc_rA (R 5)), (sc_rA (R 6)), (sc_rA (A 0)), (sc_rA (A 1)), (sc_rA (A 2)), dp, qu, av, ot)) (h0 : ¬ sc_rg A n ac C → post 0 ((nI (sc_kS C)), (nI (sc_kH C)), (nI n), (nI m), (nI ac), kn, ex, (sc_rA (R 0)), (sc_rA (R 1)), (sc_rA (R 2)), (sc_rA (R 3)), (sc_rA (R 4)), (sc_rA (R 5)), (sc_rA (R 6)), (sc_rA (A 0)), (sc_rA (A 1)), (sc_rA (A 2)), dp, qu, av, ot)) :
    ∀ d a, a + d = ac → (∀ a', a' < a → ¬ sc_r1 A n C a') → wX_rings_7 post (nI (sc_kS C)) (nI (sc_kH C)) (nI n) (nI m) (nI ac) kn ex (sc_rA (R 0)) (sc_rA (R 1)) (sc_rA (R 2)) (sc_rA (R 3)) (sc_rA (R 4)) (sc_rA (R 5)) (sc_rA (R 6)) (sc_rA (A 0)) (sc_rA (A 1)) (sc_rA (A 2)) dp qu av ot (d + 1) (nI a) := by
  intro d
  induction d with
  | zero =>
    intro a hi hno
    have e : a = ac := by omega
    subst e
    exact br_t (nI_le (Nat.le_refl _) (by omega)) (h0 (fun ⟨a', z1, z2⟩ => hno a' z1 z2))
  | succ d ih =>
    intro a hi hno
    have r := hA a
    have hC := hk.1
    have hkH : sc_kH C < 4 := by unfold sc_kH; omega
    have hkS : sc_kS C < 3 := by unfold sc_kS; omega
    have hkO := sc_kO_b (C := C) (w := A 0 a) hn
    have hi1 := sc_i_le (sc_kH C) (A 0 a)
    have e0 : sc_rA (A 0) (nI a).toNatClampNeg = nI (A 0 a) := sc_rA_a _ (by omega)
    have e1 : sc_rA (A 1) (nI a).toNatClampNeg = nI (A 1 a) := sc_rA_a _ (by omega)
    have e2 : sc_rA (A 2) (nI a).toNatClampNeg = nI (A 2 a) := sc_rA_a _ (by omega)
    have i4 : vp_in (nI a) 4 := pk_in a 4 (by omega)
    have eo : ot (sc_rA (A 0) (nI a).toNatClampNeg).toNatClampNeg = nI (sc_kO n C (A 0 a)) := by
      rw [e0, nI_clamp (by omega)]; exact hL _ r.1
    have nx : ¬ sc_r1 A n C a → wX_rings_7 post (nI (sc_kS C)) (nI (sc_kH C)) (nI n) (nI m) (nI ac) kn ex (sc_rA (R 0)) (sc_rA (R 1)) (sc_rA (R 2)) (sc_rA (R 3)) (sc_rA (R 4)) (sc_rA (R 5)) (sc_rA (R 6)) (sc_rA (A 0)) (sc_rA (A 1)) (sc_rA (A 2)) dp qu av ot (d + 1) (nI (a + 1)) := fun z => ih (a + 1) (by omega) (fun a' ha' => by
      by_cases y : a' = a
      · rw [y]; exact z
      · exact hno a' (by omega))
    have yes : sc_r1 A n C a → post 1 ((nI (sc_kS C)), (nI (sc_kH C)), (nI n), (nI m), (nI ac), kn, ex, (sc_rA (R 0)), (sc_rA (R 1)), (sc_rA (R 2)), (sc_rA (R 3)), (sc_rA (R 4)), (sc_rA (R 5)), (sc_rA (R 6)), (sc_rA (A 0)), (sc_rA (A 1)), (sc_rA (A 2)), dp, qu, av, ot) := fun z => h1 ⟨a, by omega, z⟩
    have j44 : ∀ z, z = sc_i (sc_kH C) (A 0 a) → wX_rings_44 post (wX_rings_7 post (nI (sc_kS C)) (nI (sc_kH C)) (nI n) (nI m) (nI ac) kn ex (sc_rA (R 0)) (sc_rA (R 1)) (sc_rA (R 2)) (sc_rA (R 3)) (sc_rA (R 4)) (sc_rA (R 5)) (sc_rA (R 6)) (sc_rA (A 0)) (sc_rA (A 1)) (sc_rA (A 2)) dp qu av ot (d + 1)) (nI a) (nI z) (ot (sc_rA (A 0) (nI a).toNatClampNeg).toNatClampNeg) (nI (sc_kS C)) (nI (sc_kH C)) (nI n) (nI m) (nI ac) kn ex (sc_rA (R 0)) (sc_rA (R 1)) (sc_rA (R 2)) (sc_rA (R 3)) (sc_rA (R 4)) (sc_rA (R 5)) (sc_rA (R 6)) (sc_rA (A 0)) (sc_rA (A 1)) (sc_rA (A 2)) dp qu av ot := by
      intro z hz
      rw [hz, eo]
      refine nm_r (nI_add _ _) ⟨i4, ?_⟩
      refine pk_lt (sc_kO n C (A 0 a) + sc_i (sc_kH C) (A 0 a)) (A 1 a) (fun y => nm_r (nI_1 a) (nx (fun x => ?_))) (fun y => ⟨i4, ?_⟩) rfl e1
      · have := x.1; omega
      · refine pk_eq (A 2 a) 3 (fun x => yes ⟨y, Or.inl x⟩) (fun x => ⟨i4, ?_⟩) e2
        refine pk_eq (A 2 a) (sc_kS C) (fun w => yes ⟨y, Or.inr w⟩) (fun w => nm_r (nI_1 a) (nx (fun v => ?_))) e2
        rcases v.2 with v | v
        · exact x v
        · exact w v
    refine br_f (nI_ge (by omega) (by omega)) ⟨i4, pk_in (A 0 a) 3 r.1 e0, i4, ?_⟩
    exact pk_eq (sc_kH C) (A 0 a) (fun y => j44 1 (sc_i_t y).symm) (fun y => j44 0 (sc_i_f y).symm) rfl e0
theorem sx_rings {post : Int32 → SX → Prop} {C : Nat} (ha : ac ≤ 4) (h1n : 1 ≤ n) (hn : n ≤ 4) (hA : sc_AO A) (hk : sc_ok n C)
    (h1 : sc_rg A n ac C → ∀ ot', sc_L n C ot' → post 1 ((nI (sc_kS C)), (nI (sc_kH C)), (nI n), (nI m), (nI ac), kn, ex, (sc_rA (R 0)), (sc_rA (R 1)), (sc_rA (R 2)), (sc_rA (R 3)), (sc_rA (R 4)), (sc_rA (R 5)), (sc_rA (R 6)), (sc_rA (A 0)), (sc_rA (A 1)), (sc_rA (A 2)), dp, qu, av, ot')) (h0 : ¬ sc_rg A n ac C → ∀ ot', sc_L n C ot' → post 0 ((nI (sc_kS C)), (nI (sc_kH C)), (nI n), (nI m), (nI ac), kn, ex, (sc_rA (R 0)), (sc_rA (R 1)), (sc_rA (R 2)), (sc_rA (R 3)), (sc_rA (R 4)), (sc_rA (R 5)), (sc_rA (R 6)), (sc_rA (A 0)), (sc_rA (A 1)), (sc_rA (A 2)), dp, qu, av, ot')) : wpX_rings post (sh, ho, (nI n), (nI m), (nI ac), kn, ex, (sc_rA (R 0)), (sc_rA (R 1)), (sc_rA (R 2)), (sc_rA (R 3)), (sc_rA (R 4)), (sc_rA (R 5)), (sc_rA (R 6)), (sc_rA (A 0)), (sc_rA (A 1)), (sc_rA (A 2)), dp, qu, av, ot) (nI C) := by
  unfold wpX_rings
  dsimp only
  refine sx_load h1n hn hk (fun ot' hL => ?_)
  exact ⟨ac + 1, sx_rg7 ha hn hA hk hL (fun z => h1 z ot' hL) (fun z => h0 z ot' hL) ac 0 (by omega) (fun a' z => by omega)⟩
end XC
end
section
/-! 09: the component's explore -/
def sc_dI (x : Nat) : Int32 := if x = 0 then -1 else nI (x - 1)
theorem sc_dI_0 : sc_dI 0 = -1 := rfl
theorem sc_dI_s (x : Nat) : sc_dI (x + 1) = nI x := by
  unfold sc_dI; rw [if_neg (by omega), Nat.add_sub_cancel]
theorem sc_dI_n {x : Nat} (h : x ≠ 0) : sc_dI x = nI (x - 1) := if_neg h
theorem sc_m1n {a : Nat} (h : a < 2 ^ 31) : (-1 : Int32) ≠ nI a := by
  intro e
  have := nI_pos (n := a) h
  rw [← e] at this
  exact this (by decide)
def sc_XA (K : Nat) (q δ : Nat → Nat) (dp qu : Nat → Int32) : Prop := (∀ C, C < 300 → dp C = sc_dI (δ C)) ∧ (∀ j, j < K → qu j = nI (q j))
def sc_XR (R : Nat → Nat → Nat) (n m : Nat) (kn : Int32) (dp qu : Nat → Int32) : Prop := ∃ K q δ, kn = nI K ∧ sc_XA K q δ dp qu ∧ sc_Qd n K q δ ∧ sc_Dt (sc_T R n m) 300 75 δ
def sc_bn : Bool → Nat
  | true => 1
  | false => 0
theorem sc_dI_pos {x : Nat} (h : x ≠ 0) (hx : x < 2 ^ 31) : (0 : Int32) ≤ sc_dI x := by
  rw [sc_dI_n h]; exact nI_pos' (by omega)
section XD
variable {n m ac : Nat} {R A : Nat → Nat → Nat} {sh ho kn ex : Int32} {dp qu av ot : Nat → Int32}
theorem sx_meet_old {post : SX → Prop} {C : Nat} {x : Int32} (hC : C < 300) (hd : (0 : Int32) ≤ dp C) (h : post (sh, ho, (nI n), (nI m), (nI ac), kn, ex, (sc_rA (R 0)), (sc_rA (R 1)), (sc_rA (R 2)), (sc_rA (R 3)), (sc_rA (R 4)), (sc_rA (R 5)), (sc_rA (R 6)), (sc_rA (A 0)), (sc_rA (A 1)), (sc_rA (A 2)), dp, qu, av, ot)) : wpX_meet post (sh, ho, (nI n), (nI m), (nI ac), kn, ex, (sc_rA (R 0)), (sc_rA (R 1)), (sc_rA (R 2)), (sc_rA (R 3)), (sc_rA (R 4)), (sc_rA (R 5)), (sc_rA (R 6)), (sc_rA (A 0)), (sc_rA (A 1)), (sc_rA (A 2)), dp, qu, av, ot) (nI C) x := by
  refine br_f (nI_pos (by omega)) (br_f (nI_ge (b := 300) hC (by decide)) (br_c (fun _ => h) (fun _ => ⟨pk_in C 300 hC, br_t ?_ h⟩)))
  rw [nI_clamp (by omega)]; exact hd
theorem sx_meet_new {post : SX → Prop} {C K : Nat} {x : Int32} (hC : C < 300) (hK : K < 300) (hd : dp C = -1) (h : post (sh, ho, (nI n), (nI m), (nI ac), (nI (K + 1)), ex, (sc_rA (R 0)), (sc_rA (R 1)), (sc_rA (R 2)), (sc_rA (R 3)), (sc_rA (R 4)), (sc_rA (R 5)), (sc_rA (R 6)), (sc_rA (A 0)), (sc_rA (A 1)), (sc_rA (A 2)), (upd dp C x), (upd qu K (nI C)), av, ot)) : wpX_meet post (sh, ho, (nI n), (nI m), (nI ac), (nI K), ex, (sc_rA (R 0)), (sc_rA (R 1)), (sc_rA (R 2)), (sc_rA (R 3)), (sc_rA (R 4)), (sc_rA (R 5)), (sc_rA (R 6)), (sc_rA (A 0)), (sc_rA (A 1)), (sc_rA (A 2)), dp, qu, av, ot) (nI C) x := by
  have c1 : (nI C).toNatClampNeg = C := nI_clamp (by omega)
  have c2 : (nI K).toNatClampNeg = K := nI_clamp (by omega)
  refine br_f (nI_pos (by omega)) (br_f (nI_ge (b := 300) hC (by decide)) (br_f (nI_ge (b := 300) hK (by decide)) ⟨pk_in C 300 hC, br_f ?_ ⟨pk_in C 300 hC, nm_r (by rw [c1]) ⟨pk_in K 300 hK, nm_r (by rw [c2]) (nm_r (nI_1 K) h)⟩⟩⟩))
  rw [c1, hd]; decide
theorem sx_exp7 {post : SX → Prop} {C k dC : Nat} (hm : m ≤ 12) (hn : n ≤ 4) (hR : sc_RO R) (hk : sc_ok n C) (hL : sc_L n C ot)
    (h : ∀ K q δ dp qu, k < K → sc_XI R n m k K q δ → sc_XA K q δ dp qu → q k = C → δ C = dC → (∀ C', sc_T R n m C C' → δ C' ≠ 0 ∧ δ C' ≤ dC + 1) → post ((nI (sc_kS C)), (nI (sc_kH C)), (nI n), (nI m), (nI ac), (nI K), ex, (sc_rA (R 0)), (sc_rA (R 1)), (sc_rA (R 2)), (sc_rA (R 3)), (sc_rA (R 4)), (sc_rA (R 5)), (sc_rA (R 6)), (sc_rA (A 0)), (sc_rA (A 1)), (sc_rA (A 2)), dp, qu, av, ot)) :
    ∀ d e K q δ dp qu, e + d = 2 * m → k < K → sc_XI R n m k K q δ → sc_XA K q δ dp qu → q k = C → δ C = dC → (∀ i b, 2 * i + sc_bn b < e → sc_en R n C i b → δ (sc_af R n C i b) ≠ 0 ∧ δ (sc_af R n C i b) ≤ dC + 1) →
      wX_expand_7 post (nI C) (d + 1) (nI e) (nI (sc_kS C)) (nI (sc_kH C)) (nI n) (nI m) (nI ac) (nI K) ex (sc_rA (R 0)) (sc_rA (R 1)) (sc_rA (R 2)) (sc_rA (R 3)) (sc_rA (R 4)) (sc_rA (R 5)) (sc_rA (R 6)) (sc_rA (A 0)) (sc_rA (A 1)) (sc_rA (A 2)) dp qu av ot := by
  have e2m : 2 * nI m = nI (2 * m) := pk_mul 2 m
  have hC := hk.1
  intro d
  induction d with
  | zero =>
    intro e K q δ dp qu he hkK hI hX hq hdC hdone
    have ee : e = 2 * m := by omega
    subst ee
    refine br_t (by rw [e2m]; exact nI_le (Nat.le_refl _) (by omega)) (h K q δ dp qu hkK hI hX hq hdC ?_)
    rintro C' ⟨i, b, hi, hen, rfl⟩
    refine hdone i b ?_ hen
    cases b
    · show 2 * i + 0 < 2 * m; omega
    · show 2 * i + 1 < 2 * m; omega
  | succ d ih =>
    intro e K q δ dp qu he hkK hI hX hq hdC hdone
    have hd0 : dC ≠ 0 := by
      have := (hI.2.1.2.2.1 k hkK).2.1
      rw [hq, hdC] at this; exact this
    have hdb : dC ≤ 301 := by
      have := (hI.2.1.2.2.1 k hkK).2.2.2
      have := hI.2.1.2.1
      rw [hq, hdC] at *
      omega
    have esh : nI e >>> ((1 : Int32) &&& 31) = nI (e / 2) := pk_shrN (by omega) ((1 : Int32) &&& 31) 1 (by decide)
    have ean : nI e &&& 1 = nI (e % 2) := pk_andN (by omega) (m := 1) 1 (by decide)
    have hi12 : e / 2 < 12 := by omega
    have j29 : ∀ b : Bool, e = 2 * (e / 2) + sc_bn b → wX_expand_29 post (wX_expand_7 post (nI C) (d + 1)) (nI C) (nI e) (sc_bI b) (nI (sc_kS C)) (nI (sc_kH C)) (nI n) (nI m) (nI ac) (nI K) ex (sc_rA (R 0)) (sc_rA (R 1)) (sc_rA (R 2)) (sc_rA (R 3)) (sc_rA (R 4)) (sc_rA (R 5)) (sc_rA (R 6)) (sc_rA (A 0)) (sc_rA (A 1)) (sc_rA (A 2)) dp qu av ot := by
      intro b hb
      have more : ∀ δ' : Nat → Nat, (∀ D, δ D ≠ 0 → δ' D = δ D) → (sc_en R n C (e / 2) b → δ' (sc_af R n C (e / 2) b) ≠ 0 ∧ δ' (sc_af R n C (e / 2) b) ≤ dC + 1) → (∀ i b, 2 * i + sc_bn b < e + 1 → sc_en R n C i b → δ' (sc_af R n C i b) ≠ 0 ∧ δ' (sc_af R n C i b) ≤ dC + 1) := by
        intro δ' hold hnew i b' hlt hen
        by_cases y : 2 * i + sc_bn b' < e
        · have := hdone i b' y hen
          rw [hold _ this.1]; exact this
        · have hbb : i = e / 2 ∧ b' = b := by
            cases b <;> cases b'
            · exact ⟨by show i = e / 2; have h1 : e = 2 * (e / 2) + 0 := hb; have h2 : ¬ 2 * i + 0 < e := y; have h3 : 2 * i + 0 < e + 1 := hlt; omega, rfl⟩
            · exfalso; have h1 : e = 2 * (e / 2) + 0 := hb; have h2 : ¬ 2 * i + 1 < e := y; have h3 : 2 * i + 1 < e + 1 := hlt; omega
            · exfalso; have h1 : e = 2 * (e / 2) + 1 := hb; have h2 : ¬ 2 * i + 0 < e := y; have h3 : 2 * i + 0 < e + 1 := hlt; omega
            · exact ⟨by show i = e / 2; have h1 : e = 2 * (e / 2) + 1 := hb; have h2 : ¬ 2 * i + 1 < e := y; have h3 : 2 * i + 1 < e + 1 := hlt; omega, rfl⟩
          rw [hbb.1, hbb.2] at hen ⊢
          exact hnew hen
      unfold wX_expand_29
      rw [esh]
      refine sx_en b hi12 hn hR hk hL (fun hen => ?_) (fun hen => ?_)
      · refine br_f (by decide) ?_
        refine sx_af b hi12 hR hk hL hen ⟨pk_in C 300 hC, ?_⟩
        have hT : sc_T R n m (q k) (sc_af R n C (e / 2) b) := by rw [hq]; exact ⟨e / 2, b, by omega, hen, rfl⟩
        have ev : dp (nI C).toNatClampNeg + 1 = nI dC := by
          rw [nI_clamp (by omega), hX.1 C hC, hdC, sc_dI_n hd0, nI_1]
          exact congrArg nI (by omega)
        rw [ev]
        by_cases y : δ (sc_af R n C (e / 2) b) = 0
        · obtain ⟨a1, a2, a3⟩ := sc_XI_new hn hR hI hkK hT y
          have hK3 := sc_XI_lt hI a1 y
          rw [hq, hdC] at a2 a3
          refine sx_meet_new a1 hK3 (by rw [hX.1 _ a1, y]; rfl) (nm_r (nI_1 e) ?_)
          refine ih (e + 1) (K + 1) _ _ _ _ (by omega) (by omega) a2 ⟨fun D hD => ?_, fun j hj => ?_⟩ ?_ ?_ (more _ a3 (fun _ => ?_))
          · by_cases z : D = sc_af R n C (e / 2) b
            · rw [z, pk_us, sc_up_s, sc_dI_s]
            · rw [pk_un z, sc_up_n z]; exact hX.1 D hD
          · by_cases z : j = K
            · rw [z, pk_us, sc_up_s]
            · rw [pk_un z, sc_up_n z]; exact hX.2 j (by omega)
          · rw [sc_up_n (by omega)]; exact hq
          · rw [a3 C (by rw [hdC]; exact hd0)]; exact hdC
          · rw [sc_up_s]; omega
        · have a0 : δ (sc_af R n C (e / 2) b) ≠ 0 ∧ sc_af R n C (e / 2) b < 300 := by
            refine ⟨y, ?_⟩
            obtain ⟨c, h1, h2⟩ := (hI.2.1.2.2.1 k hkK).2.2.1
            rw [← h2] at hT
            obtain ⟨c', h3, _, h4⟩ := sc_SL hn hR h1 hT
            rw [← h4]; exact sc_cl_lt hn
          obtain ⟨j, hj1, hj2⟩ := sc_Qd_in hI.2.1 a0.2 y
          have hb1 := (hI.2.1.2.2.1 j hj1).2.2.2
          have hw := hI.2.2.2.2.2.1 j hj1 hkK
          have hK3 := hI.2.1.2.1
          rw [hj2] at hb1 hw
          rw [hq, hdC] at hw
          refine sx_meet_old a0.2 (by rw [hX.1 _ a0.2]; exact sc_dI_pos y (by omega)) (nm_r (nI_1 e) ?_)
          exact ih (e + 1) K q δ dp qu (by omega) hkK hI hX hq hdC (more δ (fun _ _ => rfl) (fun _ => ⟨y, hw⟩))
      · refine br_t rfl (nm_r (nI_1 e) ?_)
        exact ih (e + 1) K q δ dp qu (by omega) hkK hI hX hq hdC (more δ (fun _ _ => rfl) (fun z => absurd z hen))
    refine br_f (by rw [e2m]; exact nI_ge (by omega) (by omega)) ?_
    refine pk_eq (e % 2) 1 (fun y => ?_) (fun y => ?_) ean
    · exact j29 true (by show e = 2 * (e / 2) + 1; omega)
    · exact j29 false (by show e = 2 * (e / 2) + 0; omega)
theorem sx_ex51 {post : SX → Prop} (hm : m ≤ 12) (h1 : 1 ≤ n) (hn : n ≤ 4) (hR : sc_RO R)
    (h : ∀ sh ho ot K q δ dp qu, sc_XI R n m K K q δ → sc_XA K q δ dp qu → post (sh, ho, (nI n), (nI m), (nI ac), (nI K), 1, (sc_rA (R 0)), (sc_rA (R 1)), (sc_rA (R 2)), (sc_rA (R 3)), (sc_rA (R 4)), (sc_rA (R 5)), (sc_rA (R 6)), (sc_rA (A 0)), (sc_rA (A 1)), (sc_rA (A 2)), dp, qu, av, ot)) :
    ∀ d k sh ho ot K q δ dp qu, k + d = 300 → sc_XI R n m k K q δ → sc_XA K q δ dp qu → wX_explore_51 post (d + 1) (nI k) sh ho (nI n) (nI m) (nI ac) (nI K) ex (sc_rA (R 0)) (sc_rA (R 1)) (sc_rA (R 2)) (sc_rA (R 3)) (sc_rA (R 4)) (sc_rA (R 5)) (sc_rA (R 6)) (sc_rA (A 0)) (sc_rA (A 1)) (sc_rA (A 2)) dp qu av ot := by
  intro d
  induction d with
  | zero =>
    intro k sh ho ot K q δ dp qu hk hI hX
    have e : k = 300 := by omega
    have e2 : K = k := by have := hI.1; have := hI.2.1.2.1; omega
    subst e2
    refine br_t ?_ (h sh ho ot K q δ dp qu hI hX)
    rw [e]; exact nI_le (a := 300) (Nat.le_refl _) (by decide)
  | succ d ih =>
    intro k sh ho ot K q δ dp qu hk hI hX
    have hK3 := hI.2.1.2.1
    refine br_f (nI_ge (b := 300) (by omega) (by decide)) ?_
    refine pk_le K k (fun y => ?_) (fun y => ⟨pk_in k 300 (by omega), ?_⟩)
    · have e2 : K = k := by have := hI.1; omega
      subst e2
      exact h sh ho ot K q δ dp qu hI hX
    · have hqk : qu (nI k).toNatClampNeg = nI (q k) := by rw [nI_clamp (by omega)]; exact hX.2 k y
      have hv := hI.2.1.2.2.1 k y
      have hok := sc_Vd_ok hn hv.2.2.1
      rw [hqk]
      unfold wpX_expand
      dsimp only
      refine sx_load h1 hn hok (fun ot' hL => ?_)
      refine ⟨2 * m + 1, sx_exp7 (k := k) (dC := δ (q k)) hm hn hR hok hL (fun K' q' δ' dp' qu' g1 g2 g3 g4 g5 g6 => ?_) (2 * m) 0 K q δ dp qu (by omega) y hI hX rfl rfl (fun i b hlt => by omega)⟩
      refine nm_r (nI_1 k) ?_
      refine ih (k + 1) _ _ _ K' q' δ' dp' qu' (by omega) (sc_XI_next g2 g1 (fun C' hT => ?_)) g3
      rw [g4] at hT ⊢
      rw [g5]
      exact g6 C' hT
theorem sx_ex10 {post : SX → Prop} (hm : m ≤ 12) (h1 : 1 ≤ n) (hn : n ≤ 4) (hR : sc_RO R)
    (h : ∀ sh ho ot K q δ dp qu, sc_XI R n m K K q δ → sc_XA K q δ dp qu → post (sh, ho, (nI n), (nI m), (nI ac), (nI K), 1, (sc_rA (R 0)), (sc_rA (R 1)), (sc_rA (R 2)), (sc_rA (R 3)), (sc_rA (R 4)), (sc_rA (R 5)), (sc_rA (R 6)), (sc_rA (A 0)), (sc_rA (A 1)), (sc_rA (A 2)), dp, qu, av, ot)) :
    ∀ d i dp, i + d = 300 → (∀ C, C < i → dp C = -1) → wX_explore_10 post sh ho (nI n) (nI m) (nI ac) kn ex (d + 1) (nI i) (sc_rA (R 0)) (sc_rA (R 1)) (sc_rA (R 2)) (sc_rA (R 3)) (sc_rA (R 4)) (sc_rA (R 5)) (sc_rA (R 6)) (sc_rA (A 0)) (sc_rA (A 1)) (sc_rA (A 2)) dp qu av ot := by
  intro d
  induction d with
  | zero =>
    intro i dp hi hdp
    have e : i = 300 := by omega
    subst e
    refine br_t (nI_le (a := 300) (Nat.le_refl _) (by decide)) ?_
    have e75 : ((((((0 : Int32) * 4) + 3) * 5) + 0) * 5) + 0 = nI 75 := by decide
    unfold wpX_number
    rw [e75]
    refine sx_meet_new (K := 0) (by decide) (by decide) (hdp 75 (by decide)) ?_
    refine ⟨301, sx_ex51 hm h1 hn hR h 300 0 sh ho ot 1 (fun _ => 75) (sc_up (fun _ => 0) 75 1) _ _ (by omega) (sc_XI_0 hn) ⟨fun C hC => ?_, fun j hj => ?_⟩⟩
    · by_cases z : C = 75
      · rw [z, pk_us, sc_up_s]; rfl
      · rw [pk_un z, sc_up_n z, hdp C hC]; rfl
    · have : j = 0 := by omega
      rw [this]; exact pk_us
  | succ d ih =>
    intro i dp hi hdp
    refine br_f (nI_ge (b := 300) (by omega) (by decide)) ⟨pk_in i 300 (by omega), nm_e (nm_r (nI_1 i) ?_)⟩
    refine ih (i + 1) _ (by omega) (fun C hC => ?_)
    rw [nI_clamp (by omega)]
    by_cases z : C = i
    · rw [z, pk_us]
    · rw [pk_un z]; exact hdp C (by omega)
theorem sx_explore {post : SX → Prop} (hm : m ≤ 12) (h1 : 1 ≤ n) (hn : n ≤ 4) (hR : sc_RO R) (he : ex = 0 ∨ (ex = 1 ∧ sc_XR R n m kn dp qu))
    (h : ∀ sh ho ot kn dp qu, sc_XR R n m kn dp qu → post (sh, ho, (nI n), (nI m), (nI ac), kn, 1, (sc_rA (R 0)), (sc_rA (R 1)), (sc_rA (R 2)), (sc_rA (R 3)), (sc_rA (R 4)), (sc_rA (R 5)), (sc_rA (R 6)), (sc_rA (A 0)), (sc_rA (A 1)), (sc_rA (A 2)), dp, qu, av, ot)) : wpX_explore post (sh, ho, (nI n), (nI m), (nI ac), kn, ex, (sc_rA (R 0)), (sc_rA (R 1)), (sc_rA (R 2)), (sc_rA (R 3)), (sc_rA (R 4)), (sc_rA (R 5)), (sc_rA (R 6)), (sc_rA (A 0)), (sc_rA (A 1)), (sc_rA (A 2)), dp, qu, av, ot) := by
  rcases he with rfl | ⟨rfl, he⟩
  · refine br_t rfl ⟨301, ?_⟩
    exact sx_ex10 hm h1 hn hR (fun sh ho ot K q δ dp qu g1 g2 => h sh ho ot _ dp qu ⟨K, q, δ, rfl, g2, sc_XI_end g1⟩) 300 0 dp (by omega) (fun C hC => by omega)
  · exact br_f (by decide) (h sh ho ot kn dp qu he)
end XD
end
section
/-! 10: the reference's helpers: place, shared, holder, others, canTake, taken -/
def sc_PW (pw : Nat → Int32) : Prop := ∀ k, k < 6 → pw k = nI (3 ^ k)
theorem sc_3lt {k : Nat} (hk : k < 6) : 3 ^ k < 2 ^ 20 := Nat.lt_of_le_of_lt (Nat.pow_le_pow_right (by decide) (show k ≤ 5 by omega)) (by decide)
section YA
variable {n m ac : Nat} {R A : Nat → Nat → Nat} {pw dY wY lY : Nat → Int32}
theorem sy_div {post : Int32 → Prop} {c k : Nat} (hP : sc_PW pw) (hk : k < 6) (hc : c < 2 ^ 31) (h : post (nI (c / 3 ^ k))) : wpY_divided post ((nI n), (nI (sc_lm n)), (nI m), (nI ac), pw, (sc_rA (R 0)), (sc_rA (R 1)), (sc_rA (R 2)), (sc_rA (R 3)), (sc_rA (R 4)), (sc_rA (R 5)), (sc_rA (R 6)), (sc_rA (A 0)), (sc_rA (A 1)), (sc_rA (A 2)), dY, wY, lY) (nI c) (nI k) := by
  have e : pw (nI k).toNatClampNeg = nI (3 ^ k) := by rw [nI_clamp (by omega)]; exact hP k hk
  have h3 := sc_3p k
  have h4 := sc_3lt hk
  refine ⟨pk_in k 6 hk, nm_r e (br_t (nI_le (a := 1) h3 (by omega)) ⟨nI_ne0 h3 (by omega), ?_⟩)⟩
  rw [pk_div hc h3 (by omega)]
  exact h
theorem sy_place {post : Int32 → Prop} {c p : Nat} (hP : sc_PW pw) (hp : p < 6) (hc : c < 2 ^ 31) (h : post (nI (sc_pl c p))) : wpY_place post ((nI n), (nI (sc_lm n)), (nI m), (nI ac), pw, (sc_rA (R 0)), (sc_rA (R 1)), (sc_rA (R 2)), (sc_rA (R 3)), (sc_rA (R 4)), (sc_rA (R 5)), (sc_rA (R 6)), (sc_rA (A 0)), (sc_rA (A 1)), (sc_rA (A 2)), dY, wY, lY) (nI c) (nI p) := by
  unfold wpY_place
  dsimp only
  refine sy_div hP hp hc ⟨by decide, ?_⟩
  have := Nat.div_le_self c (3 ^ p)
  have e := pk_rem (a := c / 3 ^ p) (d := 3) (by omega) (by decide) (by decide)
  exact e ▸ h
theorem sy_shared {post : Int32 → Prop} {c : Nat} (hP : sc_PW pw) (hn : n ≤ 4) (hc : c < 2 ^ 31) (h : post (nI (sc_sh n c))) : wpY_shared post ((nI n), (nI (sc_lm n)), (nI m), (nI ac), pw, (sc_rA (R 0)), (sc_rA (R 1)), (sc_rA (R 2)), (sc_rA (R 3)), (sc_rA (R 4)), (sc_rA (R 5)), (sc_rA (R 6)), (sc_rA (A 0)), (sc_rA (A 1)), (sc_rA (A 2)), dY, wY, lY) (nI c) := by
  unfold wpY_shared
  dsimp only
  refine sy_div hP (by omega) hc ⟨by decide, ?_⟩
  have := Nat.div_le_self c (3 ^ n)
  have e := pk_rem (a := c / 3 ^ n) (d := 3) (by omega) (by decide) (by decide)
  exact e ▸ h
theorem sy_holder {post : Int32 → Prop} {c : Nat} (hP : sc_PW pw) (hn : n ≤ 4) (hc : c < 2 ^ 31) (h : post (nI (sc_hd n c))) : wpY_holder post ((nI n), (nI (sc_lm n)), (nI m), (nI ac), pw, (sc_rA (R 0)), (sc_rA (R 1)), (sc_rA (R 2)), (sc_rA (R 3)), (sc_rA (R 4)), (sc_rA (R 5)), (sc_rA (R 6)), (sc_rA (A 0)), (sc_rA (A 1)), (sc_rA (A 2)), dY, wY, lY) (nI c) := by
  unfold wpY_holder
  dsimp only
  rw [nI_1]
  exact sy_div hP (by omega) hc h
theorem sy_ot6 {post : Int32 → Prop} {x2 : Int32} {P w c : Nat} (hP : sc_PW pw) (hn : n ≤ 4) (hc : c < 2 ^ 31) (hw : w < 3) (hx : ∀ r, r < n → (nI r = x2 ↔ r = P)) (h : post (nI (sc_ct (sc_pl c) P w n))) :
    ∀ d r, r + d = n → wY_others_6 post (nI c) x2 (nI w) (nI n) (nI (sc_lm n)) (nI m) (nI ac) pw (sc_rA (R 0)) (sc_rA (R 1)) (sc_rA (R 2)) (sc_rA (R 3)) (sc_rA (R 4)) (sc_rA (R 5)) (sc_rA (R 6)) (sc_rA (A 0)) (sc_rA (A 1)) (sc_rA (A 2)) dY wY lY (d + 1) (nI (sc_ct (sc_pl c) P w r)) (nI r) := by
  intro d
  induction d with
  | zero =>
    intro r hr
    have e : r = n := by omega
    subst e
    exact br_t (nI_le (Nat.le_refl _) (by omega)) h
  | succ d ih =>
    intro r hr
    have nx := ih (r + 1) (by omega)
    refine br_f (nI_ge (by omega) (by omega)) ⟨fun z => nm_r (nI_1 r) ?_, fun z => ?_⟩
    · rw [sc_ct_e ((hx r (by omega)).mp z)] at nx
      exact nx
    · have z' : r ≠ P := fun y => z ((hx r (by omega)).mpr y)
      have hpl := sc_pl_lt c r
      rw [sc_ct_n z'] at nx
      refine sy_place hP (by omega) hc ?_
      refine pk_eq (sc_pl c r) w (fun y => nm_r (nI_1 _) (nm_r (nI_1 r) ?_)) (fun y => nm_r (nI_1 r) ?_)
      · rw [sc_i_t y] at nx; exact nx
      · rw [sc_i_f y] at nx; exact nx
theorem sy_others {post : Int32 → Prop} {x2 : Int32} {P w c : Nat} (hP : sc_PW pw) (hn : n ≤ 4) (hc : c < 2 ^ 31) (hw : w < 3) (hx : ∀ r, r < n → (nI r = x2 ↔ r = P)) (h : post (nI (sc_ct (sc_pl c) P w n))) : wpY_others post ((nI n), (nI (sc_lm n)), (nI m), (nI ac), pw, (sc_rA (R 0)), (sc_rA (R 1)), (sc_rA (R 2)), (sc_rA (R 3)), (sc_rA (R 4)), (sc_rA (R 5)), (sc_rA (R 6)), (sc_rA (A 0)), (sc_rA (A 1)), (sc_rA (A 2)), dY, wY, lY) (nI c) x2 (nI w) :=
  ⟨n + 1, sy_ot6 hP hn hc hw hx h n 0 (by omega)⟩
theorem sy_ctk_b (q : Nat → Nat) (p w : Nat) : ∀ k, sc_ct q p w k ≤ k := by
  intro k
  induction k with
  | zero => exact Nat.le_refl _
  | succ k ih =>
    by_cases z : k = p
    · rw [sc_ct_e z]; omega
    · rw [sc_ct_n z]; have := sc_i_le (q k) w; omega
theorem sy_can43 {post : Int32 → Prop} {c p i : Nat} (hP : sc_PW pw) (hn : n ≤ 4) (hR : sc_RO R) (hc : c < sc_lm n) (hp : p < n) (hi : i < 12) (g1 : sc_pl c p = R 0 i) (g2 : R 2 i = 3 ∨ sc_sh n c = R 2 i)
    (h1 : sc_tk R n c p i → post 1) (h0 : ¬ sc_tk R n c p i → post 0) : wY_canTake_43 post (nI c) (nI p) (nI i) (nI n) (nI (sc_lm n)) (nI m) (nI ac) pw (sc_rA (R 0)) (sc_rA (R 1)) (sc_rA (R 2)) (sc_rA (R 3)) (sc_rA (R 4)) (sc_rA (R 5)) (sc_rA (R 6)) (sc_rA (A 0)) (sc_rA (A 1)) (sc_rA (A 2)) dY wY lY := by
  have r := hR i
  have hl := sc_lm_le hn
  have hh := sc_hd_le hc
  have i12 : vp_in (nI i) 12 := pk_in i 12 hi
  have e4 : sc_rA (R 4) (nI i).toNatClampNeg = nI (R 4 i) := sc_rA_a _ (by omega)
  have e5 : sc_rA (R 5) (nI i).toNatClampNeg = nI (R 5 i) := sc_rA_a _ (by omega)
  have e6 : sc_rA (R 6) (nI i).toNatClampNeg = nI (R 6 i) := sc_rA_a _ (by omega)
  have hb := sy_ctk_b (sc_pl c) p (R 4 i) n
  refine ⟨i12, ?_⟩
  rw [e4]
  refine sy_others (P := p) hP hn (by omega) r.2.2.2.2.1 (fun r hr => nI_eq (by omega) (by omega)) ⟨i12, ?_⟩
  refine pk_le (sc_ct (sc_pl c) p (R 4 i) n) (R 5 i) (fun y => ?_) (fun y => h0 (fun z => ?_)) rfl e5
  · refine sy_holder hP hn (by omega) ⟨i12, ?_⟩
    have yes : sc_tc (R 6 i) (sc_hd n c = n) (sc_hd n c = p) → post 1 := fun z => h1 ⟨g1, g2, y, z⟩
    have no : ¬ sc_tc (R 6 i) (sc_hd n c = n) (sc_hd n c = p) → post 0 := fun z => h0 (fun w => z w.2.2.2)
    have own : (R 6 i = 2 ∨ R 6 i = 3) → wY_canTake_118 post (nI p) (nI (sc_hd n c)) (nI n) (nI (sc_lm n)) (nI m) (nI ac) pw (sc_rA (R 0)) (sc_rA (R 1)) (sc_rA (R 2)) (sc_rA (R 3)) (sc_rA (R 4)) (sc_rA (R 5)) (sc_rA (R 6)) (sc_rA (A 0)) (sc_rA (A 1)) (sc_rA (A 2)) dY wY lY := by
      intro t
      refine pk_eq (sc_hd n c) p (fun z => yes ⟨fun x => by omega, fun _ => z, fun x => by omega⟩) (fun z => no (fun x => z (x.2.1 t)))
    refine pk_eq (R 6 i) 1 (fun t => ?_) (fun t1 => ⟨i12, ?_⟩) e6
    · exact pk_eq (sc_hd n c) n (fun z => yes ⟨fun _ => z, fun x => by omega, fun x => by omega⟩) (fun z => no (fun x => z (x.1 t)))
    · refine pk_eq (R 6 i) 2 (fun t => own (Or.inl t)) (fun t2 => ⟨i12, ?_⟩) e6
      refine pk_eq (R 6 i) 3 (fun t => own (Or.inr t)) (fun t3 => ⟨i12, ?_⟩) e6
      refine pk_eq (R 6 i) 4 (fun t => ?_) (fun t4 => ?_) e6
      · exact pk_eq (sc_hd n c) p (fun z => no (fun x => x.2.2 t z)) (fun z => yes ⟨fun x => by omega, fun x => by omega, fun _ => z⟩)
      · exact yes ⟨fun x => by omega, fun x => by omega, fun x => by omega⟩
  · have := z.2.2.1; omega
theorem sy_can {post : Int32 → Prop} {c p i : Nat} (hP : sc_PW pw) (hn : n ≤ 4) (hR : sc_RO R) (hc : c < sc_lm n) (hp : p < n) (hi : i < 12)
    (h1 : sc_tk R n c p i → post 1) (h0 : ¬ sc_tk R n c p i → post 0) : wpY_canTake post ((nI n), (nI (sc_lm n)), (nI m), (nI ac), pw, (sc_rA (R 0)), (sc_rA (R 1)), (sc_rA (R 2)), (sc_rA (R 3)), (sc_rA (R 4)), (sc_rA (R 5)), (sc_rA (R 6)), (sc_rA (A 0)), (sc_rA (A 1)), (sc_rA (A 2)), dY, wY, lY) (nI c) (nI p) (nI i) := by
  have r := hR i
  have hl := sc_lm_le hn
  have i12 : vp_in (nI i) 12 := pk_in i 12 hi
  have e0 : sc_rA (R 0) (nI i).toNatClampNeg = nI (R 0 i) := sc_rA_a _ (by omega)
  have e2 : sc_rA (R 2) (nI i).toNatClampNeg = nI (R 2 i) := sc_rA_a _ (by omega)
  have hpl := sc_pl_lt c p
  have hsh := sc_sh_lt n c
  unfold wpY_canTake
  dsimp only
  refine sy_place hP (by omega) (by omega) ⟨i12, ?_⟩
  refine pk_eq (sc_pl c p) (R 0 i) (fun y => ⟨i12, ?_⟩) (fun y => h0 (fun z => y z.1)) rfl e0
  refine pk_eq (R 2 i) 3 (fun x => ?_) (fun x => ?_) e2
  · exact sy_can43 hP hn hR hc hp hi y (Or.inl x) h1 h0
  · refine sy_shared hP hn (by omega) ⟨i12, ?_⟩
    refine pk_eq (sc_sh n c) (R 2 i) (fun w => ?_) (fun w => h0 (fun z => ?_)) rfl e2
    · exact sy_can43 hP hn hR hc hp hi y (Or.inr w) h1 h0
    · rcases z.2.1 with v | v
      · exact x v
      · exact w v
/-! taken -/
theorem sy_tk122 {post : Int32 → Prop} {x s h : Nat} (hP : sc_PW pw) (hn : n ≤ 4) (hp : post (nI (x + 3 ^ n * s + 3 ^ (n + 1) * h))) : wY_taken_122 post (nI x) (nI s) (nI h) (nI n) (nI (sc_lm n)) (nI m) (nI ac) pw (sc_rA (R 0)) (sc_rA (R 1)) (sc_rA (R 2)) (sc_rA (R 3)) (sc_rA (R 4)) (sc_rA (R 5)) (sc_rA (R 6)) (sc_rA (A 0)) (sc_rA (A 1)) (sc_rA (A 2)) dY wY lY := by
  have e1 : nI n + 1 = nI (n + 1) := nI_1 n
  have p1 : pw (nI n).toNatClampNeg = nI (3 ^ n) := by rw [nI_clamp (by omega)]; exact hP n (by omega)
  have p2 : pw (nI n + 1).toNatClampNeg = nI (3 ^ (n + 1)) := by rw [e1, nI_clamp (by omega)]; exact hP (n + 1) (by omega)
  refine ⟨pk_in n 6 (by omega), pk_in (n + 1) 6 (by omega) e1, ?_⟩
  rw [p1, p2, pk_mul, pk_mul, nI_add, nI_add]
  exact hp
theorem sy_tk84 {post : Int32 → Prop} {c p i x s : Nat} (hP : sc_PW pw) (hn : n ≤ 4) (hR : sc_RO R) (hc : c < sc_lm n) (hi : i < 12) (hp : post (nI (x + 3 ^ n * s + 3 ^ (n + 1) * sc_mh R n (sc_hd n c) p i))) : wY_taken_84 post (nI c) (nI p) (nI i) (nI x) (nI s) (nI n) (nI (sc_lm n)) (nI m) (nI ac) pw (sc_rA (R 0)) (sc_rA (R 1)) (sc_rA (R 2)) (sc_rA (R 3)) (sc_rA (R 4)) (sc_rA (R 5)) (sc_rA (R 6)) (sc_rA (A 0)) (sc_rA (A 1)) (sc_rA (A 2)) dY wY lY := by
  have r := hR i
  have hl := sc_lm_le hn
  have i12 : vp_in (nI i) 12 := pk_in i 12 hi
  have e6 : sc_rA (R 6) (nI i).toNatClampNeg = nI (R 6 i) := sc_rA_a _ (by omega)
  refine ⟨i12, ?_⟩
  refine pk_eq (R 6 i) 1 (fun t => ?_) (fun t1 => ⟨i12, ?_⟩) e6
  · rw [sc_mh1 t] at hp
    exact sy_tk122 hP hn hp
  · refine pk_eq (R 6 i) 2 (fun t => ?_) (fun t2 => ?_) e6
    · rw [sc_mh2 t] at hp
      exact sy_tk122 hP hn hp
    · rw [sc_mh3 t1 t2] at hp
      exact sy_holder hP hn (by omega) (sy_tk122 hP hn hp)
theorem sy_tk6 {post : Int32 → Prop} {c p i : Nat} (hP : sc_PW pw) (hn : n ≤ 4) (hR : sc_RO R) (hc : c < sc_lm n) (hp : p < n) (hi : i < 12) (h : post (nI (sc_mk R n c p i))) :
    ∀ d r, r + d = n → wY_taken_6 post (nI c) (nI p) (nI i) (nI n) (nI (sc_lm n)) (nI m) (nI ac) pw (sc_rA (R 0)) (sc_rA (R 1)) (sc_rA (R 2)) (sc_rA (R 3)) (sc_rA (R 4)) (sc_rA (R 5)) (sc_rA (R 6)) (sc_rA (A 0)) (sc_rA (A 1)) (sc_rA (A 2)) dY wY lY (d + 1) (nI (sc_vl (sc_up (sc_pl c) p (R 1 i)) r)) (nI r) := by
  have rr := hR i
  have hl := sc_lm_le hn
  have i12 : vp_in (nI i) 12 := pk_in i 12 hi
  have e1 : sc_rA (R 1) (nI i).toNatClampNeg = nI (R 1 i) := sc_rA_a _ (by omega)
  have e3 : sc_rA (R 3) (nI i).toNatClampNeg = nI (R 3 i) := sc_rA_a _ (by omega)
  intro d
  induction d with
  | zero =>
    intro r hr
    have e : r = n := by omega
    subst e
    refine br_t (nI_le (Nat.le_refl _) (by omega)) ⟨i12, ?_⟩
    have ms : sc_mk R r c p i = sc_vl (sc_up (sc_pl c) p (R 1 i)) r + 3 ^ r * sc_ms R (sc_sh r c) i + 3 ^ (r + 1) * sc_mh R r (sc_hd r c) p i := rfl
    rw [ms] at h
    unfold sc_ms at h
    refine pk_eq (R 3 i) 3 (fun y => ?_) (fun y => ⟨i12, ?_⟩) e3
    · rw [if_pos y] at h
      exact sy_shared hP hn (by omega) (sy_tk84 hP hn hR hc hi h)
    · rw [if_neg y] at h
      rw [e3]
      exact sy_tk84 hP hn hR hc hi h
  | succ d ih =>
    intro r hr
    have nx := ih (r + 1) (by omega)
    have er : pw (nI r).toNatClampNeg = nI (3 ^ r) := by rw [nI_clamp (by omega)]; exact hP r (by omega)
    have j37 : ∀ v, v = sc_up (sc_pl c) p (R 1 i) r → wY_taken_37 post (wY_taken_6 post (nI c) (nI p) (nI i) (nI n) (nI (sc_lm n)) (nI m) (nI ac) pw (sc_rA (R 0)) (sc_rA (R 1)) (sc_rA (R 2)) (sc_rA (R 3)) (sc_rA (R 4)) (sc_rA (R 5)) (sc_rA (R 6)) (sc_rA (A 0)) (sc_rA (A 1)) (sc_rA (A 2)) dY wY lY (d + 1)) (nI c) (nI p) (nI i) (nI (sc_vl (sc_up (sc_pl c) p (R 1 i)) r)) (nI r) (nI v) (nI n) (nI (sc_lm n)) (nI m) (nI ac) pw (sc_rA (R 0)) (sc_rA (R 1)) (sc_rA (R 2)) (sc_rA (R 3)) (sc_rA (R 4)) (sc_rA (R 5)) (sc_rA (R 6)) (sc_rA (A 0)) (sc_rA (A 1)) (sc_rA (A 2)) dY wY lY := by
      intro v hv
      refine ⟨pk_in r 6 (by omega), nm_r (e' := nI (sc_vl (sc_up (sc_pl c) p (R 1 i)) (r + 1))) ?_ (nm_r (nI_1 r) nx)⟩
      rw [er, pk_mul, nI_add, sc_vl_s, hv]
    refine br_f (nI_ge (by omega) (by omega)) ?_
    refine pk_eq r p (fun y => ⟨i12, ?_⟩) (fun y => ?_)
    · rw [e1]; exact j37 _ (by rw [y, sc_up_s])
    · exact sy_place hP (by omega) (by omega) (j37 _ (by rw [sc_up_n y]))
theorem sy_taken {post : Int32 → Prop} {c p i : Nat} (hP : sc_PW pw) (hn : n ≤ 4) (hR : sc_RO R) (hc : c < sc_lm n) (hp : p < n) (hi : i < 12) (h : post (nI (sc_mk R n c p i))) : wpY_taken post ((nI n), (nI (sc_lm n)), (nI m), (nI ac), pw, (sc_rA (R 0)), (sc_rA (R 1)), (sc_rA (R 2)), (sc_rA (R 3)), (sc_rA (R 4)), (sc_rA (R 5)), (sc_rA (R 6)), (sc_rA (A 0)), (sc_rA (A 1)), (sc_rA (A 2)), dY, wY, lY) (nI c) (nI p) (nI i) :=
  ⟨n + 1, sy_tk6 hP hn hR hc hp hi h n 0 (by omega)⟩
end YA
end
section
/-! 11: the reference's pairs, leads, bad, goesOn -/
noncomputable def sc_pI (R : Nat → Nat → Nat) (n c p : Nat) : Nat → Nat := sc_sm (fun i => sc_b (sc_tk R n c p i))
noncomputable def sc_pY (R : Nat → Nat → Nat) (n m c : Nat) : Nat → Nat := sc_sm (fun p => sc_pI R n c p m)
section YB
variable {n m ac : Nat} {R A : Nat → Nat → Nat} {pw dY wY lY : Nat → Int32}
theorem sy_pr15 {post : Int32 → Prop} {J : Int32 → Int32 → Prop} {c p v : Nat} (hm : m ≤ 12) (hP : sc_PW pw) (hn : n ≤ 4) (hR : sc_RO R) (hc : c < sc_lm n) (hp : p < n) (h : J (nI (v + sc_pI R n c p m)) (nI (p + 1))) :
    ∀ d i, i + d = m → wY_pairs_15 post J (nI c) (nI p) (nI n) (nI (sc_lm n)) (nI m) (nI ac) pw (sc_rA (R 0)) (sc_rA (R 1)) (sc_rA (R 2)) (sc_rA (R 3)) (sc_rA (R 4)) (sc_rA (R 5)) (sc_rA (R 6)) (sc_rA (A 0)) (sc_rA (A 1)) (sc_rA (A 2)) dY wY lY (d + 1) (nI (v + sc_pI R n c p i)) (nI i) := by
  intro d
  induction d with
  | zero =>
    intro i hi
    have e : i = m := by omega
    subst e
    exact br_t (nI_le (Nat.le_refl _) (by omega)) (nm_r (nI_1 p) h)
  | succ d ih =>
    intro i hi
    have nx := ih (i + 1) (by omega)
    have es : sc_pI R n c p (i + 1) = sc_pI R n c p i + sc_b (sc_tk R n c p i) := rfl
    rw [es] at nx
    refine br_f (nI_ge (by omega) (by omega)) (br_f (nI_ge (b := 12) (by omega) (by decide)) ?_)
    refine sy_can hP hn hR hc hp (by omega) (fun y => br_f (by decide) (nm_r (nI_1 _) (nm_r (nI_1 i) ?_))) (fun y => br_t rfl (nm_r (nI_1 i) ?_))
    · rw [sc_b_t y] at nx; exact nx
    · rw [sc_b_f y] at nx; exact nx
theorem sy_pr4 {post : Int32 → Prop} {c : Nat} (hm : m ≤ 12) (hP : sc_PW pw) (hn : n ≤ 4) (hR : sc_RO R) (hc : c < sc_lm n) (h : post (nI (sc_pY R n m c n))) :
    ∀ d p, p + d = n → wY_pairs_4 post (nI c) (nI n) (nI (sc_lm n)) (nI m) (nI ac) pw (sc_rA (R 0)) (sc_rA (R 1)) (sc_rA (R 2)) (sc_rA (R 3)) (sc_rA (R 4)) (sc_rA (R 5)) (sc_rA (R 6)) (sc_rA (A 0)) (sc_rA (A 1)) (sc_rA (A 2)) dY wY lY (d + 1) (nI (sc_pY R n m c p)) (nI p) := by
  intro d
  induction d with
  | zero =>
    intro p hp
    have e : p = n := by omega
    subst e
    exact br_t (nI_le (Nat.le_refl _) (by omega)) h
  | succ d ih =>
    intro p hp
    have nx := ih (p + 1) (by omega)
    exact br_f (nI_ge (by omega) (by omega)) ⟨m + 1, sy_pr15 hm hP hn hR hc (by omega) nx m 0 (by omega)⟩
theorem sy_pairs {post : Int32 → Prop} {c : Nat} (hm : m ≤ 12) (hP : sc_PW pw) (hn : n ≤ 4) (hR : sc_RO R) (hc : c < sc_lm n) (h : post (nI (sc_pY R n m c n))) : wpY_pairs post ((nI n), (nI (sc_lm n)), (nI m), (nI ac), pw, (sc_rA (R 0)), (sc_rA (R 1)), (sc_rA (R 2)), (sc_rA (R 3)), (sc_rA (R 4)), (sc_rA (R 5)), (sc_rA (R 6)), (sc_rA (A 0)), (sc_rA (A 1)), (sc_rA (A 2)), dY, wY, lY) (nI c) :=
  ⟨n + 1, sy_pr4 hm hP hn hR hc h n 0 (by omega)⟩
/-! leads -/
def sc_ld (R : Nat → Nat → Nat) (n m c : Nat) (x : Int32) : Prop := ∃ p i, p < n ∧ i < m ∧ sc_tk R n c p i ∧ nI (sc_mk R n c p i) = x
theorem sy_ld13 {post : Int32 → Prop} {J : Int32 → Prop} {c p : Nat} {x : Int32} (hm : m ≤ 12) (hP : sc_PW pw) (hn : n ≤ 4) (hR : sc_RO R) (hc : c < sc_lm n) (hp : p < n)
    (h1 : (∃ i, i < m ∧ sc_tk R n c p i ∧ nI (sc_mk R n c p i) = x) → post 1) (hJ : (∀ i, i < m → ¬ (sc_tk R n c p i ∧ nI (sc_mk R n c p i) = x)) → J (nI (p + 1))) :
    ∀ d i, i + d = m → (∀ i', i' < i → ¬ (sc_tk R n c p i' ∧ nI (sc_mk R n c p i') = x)) → wY_leads_13 post J (nI c) x (nI p) (nI n) (nI (sc_lm n)) (nI m) (nI ac) pw (sc_rA (R 0)) (sc_rA (R 1)) (sc_rA (R 2)) (sc_rA (R 3)) (sc_rA (R 4)) (sc_rA (R 5)) (sc_rA (R 6)) (sc_rA (A 0)) (sc_rA (A 1)) (sc_rA (A 2)) dY wY lY (d + 1) (nI i) := by
  intro d
  induction d with
  | zero =>
    intro i hi hno
    have e : i = m := by omega
    subst e
    exact br_t (nI_le (Nat.le_refl _) (by omega)) (nm_r (nI_1 p) (hJ hno))
  | succ d ih =>
    intro i hi hno
    have nx : ¬ (sc_tk R n c p i ∧ nI (sc_mk R n c p i) = x) → wY_leads_13 post J (nI c) x (nI p) (nI n) (nI (sc_lm n)) (nI m) (nI ac) pw (sc_rA (R 0)) (sc_rA (R 1)) (sc_rA (R 2)) (sc_rA (R 3)) (sc_rA (R 4)) (sc_rA (R 5)) (sc_rA (R 6)) (sc_rA (A 0)) (sc_rA (A 1)) (sc_rA (A 2)) dY wY lY (d + 1) (nI (i + 1)) := fun z => ih (i + 1) (by omega) (fun i' h' => by
      by_cases y : i' = i
      · rw [y]; exact z
      · exact hno i' (by omega))
    refine br_f (nI_ge (by omega) (by omega)) (br_f (nI_ge (b := 12) (by omega) (by decide)) ?_)
    refine sy_can hP hn hR hc hp (by omega) (fun y => br_f (by decide) ?_) (fun y => br_t rfl (nm_r (nI_1 i) (nx (fun z => y z.1))))
    refine sy_taken hP hn hR hc hp (by omega) ⟨fun z => h1 ⟨i, by omega, y, z⟩, fun z => nm_r (nI_1 i) (nx (fun w => z w.2))⟩
theorem sy_ld2 {post : Int32 → Prop} {c : Nat} {x : Int32} (hm : m ≤ 12) (hP : sc_PW pw) (hn : n ≤ 4) (hR : sc_RO R) (hc : c < sc_lm n)
    (h1 : sc_ld R n m c x → post 1) (h0 : ¬ sc_ld R n m c x → post 0) :
    ∀ d p, p + d = n → (∀ p' i, p' < p → i < m → ¬ (sc_tk R n c p' i ∧ nI (sc_mk R n c p' i) = x)) → wY_leads_2 post (nI c) x (nI n) (nI (sc_lm n)) (nI m) (nI ac) pw (sc_rA (R 0)) (sc_rA (R 1)) (sc_rA (R 2)) (sc_rA (R 3)) (sc_rA (R 4)) (sc_rA (R 5)) (sc_rA (R 6)) (sc_rA (A 0)) (sc_rA (A 1)) (sc_rA (A 2)) dY wY lY (d + 1) (nI p) := by
  intro d
  induction d with
  | zero =>
    intro p hp hno
    have e : p = n := by omega
    subst e
    refine br_t (nI_le (Nat.le_refl _) (by omega)) (h0 ?_)
    rintro ⟨p', i, y1, y2, y3, y4⟩
    exact hno p' i y1 y2 ⟨y3, y4⟩
  | succ d ih =>
    intro p hp hno
    refine br_f (nI_ge (by omega) (by omega)) ⟨m + 1, sy_ld13 hm hP hn hR hc (by omega) ?_ (fun hz => ?_) m 0 (by omega) (fun i' h' => by omega)⟩
    · rintro ⟨i, y1, y2, y3⟩
      exact h1 ⟨p, i, by omega, y1, y2, y3⟩
    · refine ih (p + 1) (by omega) (fun p' i y1 y2 => ?_)
      by_cases y : p' = p
      · rw [y]; exact hz i y2
      · exact hno p' i (by omega) y2
theorem sy_leads {post : Int32 → Prop} {c : Nat} {x : Int32} (hm : m ≤ 12) (hP : sc_PW pw) (hn : n ≤ 4) (hR : sc_RO R) (hc : c < sc_lm n)
    (h1 : sc_ld R n m c x → post 1) (h0 : ¬ sc_ld R n m c x → post 0) : wpY_leads post ((nI n), (nI (sc_lm n)), (nI m), (nI ac), pw, (sc_rA (R 0)), (sc_rA (R 1)), (sc_rA (R 2)), (sc_rA (R 3)), (sc_rA (R 4)), (sc_rA (R 5)), (sc_rA (R 6)), (sc_rA (A 0)), (sc_rA (A 1)), (sc_rA (A 2)), dY, wY, lY) (nI c) x :=
  ⟨n + 1, sy_ld2 hm hP hn hR hc h1 h0 n 0 (by omega) (fun p' i h' => by omega)⟩
/-! bad -/
theorem sy_bad2 {post : Int32 → Prop} {c : Nat} (ha : ac ≤ 4) (hP : sc_PW pw) (hn : n ≤ 4) (hA : sc_AO A) (hc : c < sc_lm n) (h1 : sc_rg A n ac (sc_cl n c) → post 1) (h0 : ¬ sc_rg A n ac (sc_cl n c) → post 0) :
    ∀ d a, a + d = ac → (∀ a', a' < a → ¬ sc_r1 A n (sc_cl n c) a') → wY_bad_2 post (nI c) (nI n) (nI (sc_lm n)) (nI m) (nI ac) pw (sc_rA (R 0)) (sc_rA (R 1)) (sc_rA (R 2)) (sc_rA (R 3)) (sc_rA (R 4)) (sc_rA (R 5)) (sc_rA (R 6)) (sc_rA (A 0)) (sc_rA (A 1)) (sc_rA (A 2)) dY wY lY (d + 1) (nI a) := by
  have hl := sc_lm_le hn
  have hsh := sc_sh_lt n c
  intro d
  induction d with
  | zero =>
    intro a hi hno
    have e : a = ac := by omega
    subst e
    exact br_t (nI_le (Nat.le_refl _) (by omega)) (h0 (fun ⟨a', z1, z2⟩ => hno a' z1 z2))
  | succ d ih =>
    intro a hi hno
    have r := hA a
    have hb := sy_ctk_b (sc_pl c) n (A 0 a) n
    have e0 : sc_rA (A 0) (nI a).toNatClampNeg = nI (A 0 a) := sc_rA_a _ (by omega)
    have e1 : sc_rA (A 1) (nI a).toNatClampNeg = nI (A 1 a) := sc_rA_a _ (by omega)
    have e2 : sc_rA (A 2) (nI a).toNatClampNeg = nI (A 2 a) := sc_rA_a _ (by omega)
    have i4 : vp_in (nI a) 4 := pk_in a 4 (by omega)
    have eT : sc_kO n (sc_cl n c) (A 0 a) + sc_i (sc_kH (sc_cl n c)) (A 0 a) = sc_ct (sc_pl c) n (A 0 a) n := by
      rw [sc_cl_O hn r.1, sc_cl_H hn]; exact sc_oT r.1
    have eS := sc_cl_S (c := c) hn
    have nx : ¬ sc_r1 A n (sc_cl n c) a → wY_bad_2 post (nI c) (nI n) (nI (sc_lm n)) (nI m) (nI ac) pw (sc_rA (R 0)) (sc_rA (R 1)) (sc_rA (R 2)) (sc_rA (R 3)) (sc_rA (R 4)) (sc_rA (R 5)) (sc_rA (R 6)) (sc_rA (A 0)) (sc_rA (A 1)) (sc_rA (A 2)) dY wY lY (d + 1) (nI (a + 1)) := fun z => ih (a + 1) (by omega) (fun a' ha' => by
      by_cases y : a' = a
      · rw [y]; exact z
      · exact hno a' (by omega))
    have yes : sc_r1 A n (sc_cl n c) a → post 1 := fun z => h1 ⟨a, by omega, z⟩
    have j52 : (A 2 a = 3 ∨ A 2 a = sc_kS (sc_cl n c)) → wY_bad_52 post (wY_bad_2 post (nI c) (nI n) (nI (sc_lm n)) (nI m) (nI ac) pw (sc_rA (R 0)) (sc_rA (R 1)) (sc_rA (R 2)) (sc_rA (R 3)) (sc_rA (R 4)) (sc_rA (R 5)) (sc_rA (R 6)) (sc_rA (A 0)) (sc_rA (A 1)) (sc_rA (A 2)) dY wY lY (d + 1)) (nI c) (nI a) (nI (sc_ct (sc_pl c) n (A 0 a) n)) (nI n) (nI (sc_lm n)) (nI m) (nI ac) pw (sc_rA (R 0)) (sc_rA (R 1)) (sc_rA (R 2)) (sc_rA (R 3)) (sc_rA (R 4)) (sc_rA (R 5)) (sc_rA (R 6)) (sc_rA (A 0)) (sc_rA (A 1)) (sc_rA (A 2)) dY wY lY := by
      intro hs
      refine ⟨i4, ?_⟩
      refine pk_lt (sc_ct (sc_pl c) n (A 0 a) n) (A 1 a) (fun y => nm_r (nI_1 a) (nx (fun x => ?_))) (fun y => br_f (by decide) (yes ⟨?_, hs⟩)) rfl e1
      · have := x.1; omega
      · omega
    refine br_f (nI_ge (by omega) (by omega)) (br_f (nI_ge (b := 4) (by omega) (by decide)) ⟨i4, ?_⟩)
    rw [e0]
    refine sy_others (P := n) hP hn (by omega) r.1 (fun r hr => ⟨fun z => absurd z.symm (sc_m1n (by omega)), fun z => by omega⟩) ⟨i4, ?_⟩
    refine pk_eq (A 2 a) 3 (fun y => j52 (Or.inl y)) (fun y => ⟨i4, ?_⟩) e2
    refine sy_shared hP hn (by omega) ?_
    refine pk_eq (A 2 a) (sc_sh n c) (fun x => j52 (Or.inr (by rw [eS]; exact x))) (fun x => ⟨i4, ?_⟩) e2
    have no : ¬ sc_r1 A n (sc_cl n c) a := fun z => by
      rcases z.2 with v | v
      · exact y v
      · rw [eS] at v; exact x v
    exact br_c (fun _ => nm_r (nI_1 a) (nx no)) (fun _ => br_t rfl (nm_r (nI_1 a) (nx no)))
theorem sy_bad {post : Int32 → Prop} {c : Nat} (ha : ac ≤ 4) (hP : sc_PW pw) (hn : n ≤ 4) (hA : sc_AO A) (hc : c < sc_lm n) (h1 : sc_rg A n ac (sc_cl n c) → post 1) (h0 : ¬ sc_rg A n ac (sc_cl n c) → post 0) : wpY_bad post ((nI n), (nI (sc_lm n)), (nI m), (nI ac), pw, (sc_rA (R 0)), (sc_rA (R 1)), (sc_rA (R 2)), (sc_rA (R 3)), (sc_rA (R 4)), (sc_rA (R 5)), (sc_rA (R 6)), (sc_rA (A 0)), (sc_rA (A 1)), (sc_rA (A 2)), dY, wY, lY) (nI c) :=
  ⟨ac + 1, sy_bad2 ha hP hn hA hc h1 h0 ac 0 (by omega) (fun a' h' => by omega)⟩
/-! goesOn -/
def sc_go (R : Nat → Nat → Nat) (n m c : Nat) (W : Nat → Prop) : Prop := ∃ c', c' < sc_lm n ∧ sc_S R n m c c' ∧ W c'
def sc_WA (N : Nat) (W : Nat → Prop) (a : Nat → Int32) : Prop := ∀ c, c < N → a c = nI (sc_b (W c))
theorem sc_WA_0 {N c : Nat} {W : Nat → Prop} {a : Nat → Int32} (h : sc_WA N W a) (hc : c < N) : a c = 0 ↔ ¬ W c := by
  rw [h c hc]
  rcases sc_b_c (W c) with ⟨y, e⟩ | ⟨y, e⟩
  · rw [e]; exact ⟨fun z => absurd z (by decide), fun z => absurd y z⟩
  · rw [e]; exact ⟨fun _ => y, fun _ => rfl⟩
theorem sy_go12 {post : Int32 → Prop} {J : Int32 → Prop} {W : Nat → Prop} {c p : Nat} (hm : m ≤ 12) (hP : sc_PW pw) (hn : n ≤ 4) (hR : sc_RO R) (hc : c < sc_lm n) (hp : p < n) (hW : sc_WA (sc_lm n) W wY)
    (h1 : (∃ i, i < m ∧ sc_tk R n c p i ∧ W (sc_mk R n c p i)) → post 1) (hJ : (∀ i, i < m → ¬ (sc_tk R n c p i ∧ W (sc_mk R n c p i))) → J (nI (p + 1))) :
    ∀ d i, i + d = m → (∀ i', i' < i → ¬ (sc_tk R n c p i' ∧ W (sc_mk R n c p i'))) → wY_goesOn_12 post J (nI c) (nI p) (nI n) (nI (sc_lm n)) (nI m) (nI ac) pw (sc_rA (R 0)) (sc_rA (R 1)) (sc_rA (R 2)) (sc_rA (R 3)) (sc_rA (R 4)) (sc_rA (R 5)) (sc_rA (R 6)) (sc_rA (A 0)) (sc_rA (A 1)) (sc_rA (A 2)) dY wY lY (d + 1) (nI i) := by
  have hl := sc_lm_le hn
  intro d
  induction d with
  | zero =>
    intro i hi hno
    have e : i = m := by omega
    subst e
    exact br_t (nI_le (Nat.le_refl _) (by omega)) (nm_r (nI_1 p) (hJ hno))
  | succ d ih =>
    intro i hi hno
    have nx : ¬ (sc_tk R n c p i ∧ W (sc_mk R n c p i)) → wY_goesOn_12 post J (nI c) (nI p) (nI n) (nI (sc_lm n)) (nI m) (nI ac) pw (sc_rA (R 0)) (sc_rA (R 1)) (sc_rA (R 2)) (sc_rA (R 3)) (sc_rA (R 4)) (sc_rA (R 5)) (sc_rA (R 6)) (sc_rA (A 0)) (sc_rA (A 1)) (sc_rA (A 2)) dY wY lY (d + 1) (nI (i + 1)) := fun z => ih (i + 1) (by omega) (fun i' h' => by
      by_cases y : i' = i
      · rw [y]; exact z
      · exact hno i' (by omega))
    have ht := sc_mk_lt (n := n) (c := c) (p := p) (i := i) hR hc hp
    refine br_f (nI_ge (by omega) (by omega)) (br_f (nI_ge (b := 12) (by omega) (by decide)) ?_)
    refine sy_can hP hn hR hc hp (by omega) (fun y => br_f (by decide) ?_) (fun y => br_t rfl (nm_r (nI_1 i) (nx (fun z => y z.1))))
    refine sy_taken hP hn hR hc hp (by omega) (br_f (nI_pos (by omega)) (br_f (nI_ge (b := 1215) (by omega) (by decide)) ⟨pk_in (sc_mk R n c p i) 1215 (by omega), ?_⟩))
    rw [nI_clamp (by omega), sc_WA_0 hW ht]
    exact ⟨fun z => nm_r (nI_1 i) (nx (fun w => z w.2)), fun z => h1 ⟨i, by omega, y, Classical.not_not.mp z⟩⟩
theorem sy_go2 {post : Int32 → Prop} {W : Nat → Prop} {c : Nat} (hm : m ≤ 12) (hP : sc_PW pw) (hn : n ≤ 4) (hR : sc_RO R) (hc : c < sc_lm n) (hW : sc_WA (sc_lm n) W wY)
    (h1 : sc_go R n m c W → post 1) (h0 : ¬ sc_go R n m c W → post 0) :
    ∀ d p, p + d = n → (∀ p' i, p' < p → i < m → ¬ (sc_tk R n c p' i ∧ W (sc_mk R n c p' i))) → wY_goesOn_2 post (nI c) (nI n) (nI (sc_lm n)) (nI m) (nI ac) pw (sc_rA (R 0)) (sc_rA (R 1)) (sc_rA (R 2)) (sc_rA (R 3)) (sc_rA (R 4)) (sc_rA (R 5)) (sc_rA (R 6)) (sc_rA (A 0)) (sc_rA (A 1)) (sc_rA (A 2)) dY wY lY (d + 1) (nI p) := by
  intro d
  induction d with
  | zero =>
    intro p hp hno
    have e : p = n := by omega
    subst e
    refine br_t (nI_le (Nat.le_refl _) (by omega)) (h0 ?_)
    rintro ⟨c', _, ⟨p', i, y1, y2, y3, rfl⟩, y4⟩
    exact hno p' i y1 y2 ⟨y3, y4⟩
  | succ d ih =>
    intro p hp hno
    refine br_f (nI_ge (by omega) (by omega)) ⟨m + 1, sy_go12 hm hP hn hR hc (by omega) hW ?_ (fun hz => ?_) m 0 (by omega) (fun i' h' => by omega)⟩
    · rintro ⟨i, y1, y2, y3⟩
      exact h1 ⟨_, sc_mk_lt hR hc (by omega), ⟨p, i, by omega, y1, y2, rfl⟩, y3⟩
    · refine ih (p + 1) (by omega) (fun p' i y1 y2 => ?_)
      by_cases y : p' = p
      · rw [y]; exact hz i y2
      · exact hno p' i (by omega) y2
theorem sy_goesOn {post : Int32 → Prop} {W : Nat → Prop} {c : Nat} (hm : m ≤ 12) (hP : sc_PW pw) (hn : n ≤ 4) (hR : sc_RO R) (hc : c < sc_lm n) (hW : sc_WA (sc_lm n) W wY)
    (h1 : sc_go R n m c W → post 1) (h0 : ¬ sc_go R n m c W → post 0) : wpY_goesOn post ((nI n), (nI (sc_lm n)), (nI m), (nI ac), pw, (sc_rA (R 0)), (sc_rA (R 1)), (sc_rA (R 2)), (sc_rA (R 3)), (sc_rA (R 4)), (sc_rA (R 5)), (sc_rA (R 6)), (sc_rA (A 0)), (sc_rA (A 1)), (sc_rA (A 2)), dY, wY, lY) (nI c) :=
  ⟨n + 1, sy_go2 hm hP hn hR hc hW h1 h0 n 0 (by omega) (fun p' i h' => by omega)⟩
end YB
end
section
/-! 12: the reference's explore -/
def sc_YA (n : Nat) (δ : Nat → Nat) (dY : Nat → Int32) : Prop := ∀ c, c < sc_lm n → dY c = sc_dI (δ c)
def sc_YR (R : Nat → Nat → Nat) (n m : Nat) (dY : Nat → Int32) : Prop := ∃ δ, sc_YA n δ dY ∧ sc_Dt (sc_S R n m) (sc_lm n) (sc_st n) δ ∧ ∀ c, c < sc_lm n → δ c ≤ 2000
/-- what spread's own flag says -/
def sc_Sp (n z : Nat) (δ0 δ : Nat → Nat) : Prop := (z = 0 ∧ δ = δ0) ∨ (z = 1 ∧ sc_cY n δ0 + 1 ≤ sc_cY n δ)
theorem sc_dI_eq {x d : Nat} (hx : x < 2 ^ 31) (hd : d < 2 ^ 31) : sc_dI x = nI d ↔ x = d + 1 := by
  by_cases z : x = 0
  · rw [z]
    exact ⟨fun e => absurd e (sc_m1n hd), fun e => by omega⟩
  · rw [sc_dI_n z, nI_eq (by omega) hd]; omega
section YC
variable {n m ac : Nat} {R A : Nat → Nat → Nat} {pw dY wY lY : Nat → Int32}
theorem sy_sp17 {post : Int32 → SY → Prop} {J : Int32 → Int32 → (Nat → Int32) → (Nat → Int32) → (Nat → Int32) → (Nat → Int32) → (Nat → Int32) → (Nat → Int32) → (Nat → Int32) → (Nat → Int32) → (Nat → Int32) → (Nat → Int32) → (Nat → Int32) → (Nat → Int32) → (Nat → Int32) → (Nat → Int32) → Prop} {k p e : Nat} {δ0 : Nat → Nat}
    (hm : m ≤ 12) (hP : sc_PW pw) (hn : n ≤ 4) (hR : sc_RO R) (hk : k < sc_lm n) (hp : p < n) (he : e < 1215)
    (hJ : ∀ z δ dY, sc_YI R n m e k δ → δ k = e + 1 → sc_YA n δ dY → sc_Sp n z δ0 δ → (∀ p' i, p' < p + 1 → i < m → sc_tk R n k p' i → δ (sc_mk R n k p' i) ≠ 0) → J (nI z) (nI (p + 1)) pw (sc_rA (R 0)) (sc_rA (R 1)) (sc_rA (R 2)) (sc_rA (R 3)) (sc_rA (R 4)) (sc_rA (R 5)) (sc_rA (R 6)) (sc_rA (A 0)) (sc_rA (A 1)) (sc_rA (A 2)) dY wY lY) :
    ∀ d i z δ dY, i + d = m → sc_YI R n m e k δ → δ k = e + 1 → sc_YA n δ dY → sc_Sp n z δ0 δ → (∀ p' i', (p' < p ∨ (p' = p ∧ i' < i)) → i' < m → sc_tk R n k p' i' → δ (sc_mk R n k p' i') ≠ 0) →
      wY_spread_17 post J (nI k) (nI e) (nI p) (nI n) (nI (sc_lm n)) (nI m) (nI ac) (d + 1) (nI z) (nI i) pw (sc_rA (R 0)) (sc_rA (R 1)) (sc_rA (R 2)) (sc_rA (R 3)) (sc_rA (R 4)) (sc_rA (R 5)) (sc_rA (R 6)) (sc_rA (A 0)) (sc_rA (A 1)) (sc_rA (A 2)) dY wY lY := by
  have hl := sc_lm_le hn
  intro d
  induction d with
  | zero =>
    intro i z δ dY hi hI hke hX hS hdone
    have ee : i = m := by omega
    subst ee
    refine br_t (nI_le (Nat.le_refl _) (by omega)) (nm_r (nI_1 p) (hJ z δ dY hI hke hX hS (fun p' i' h1 h2 h3 => hdone p' i' ?_ h2 h3)))
    omega
  | succ d ih =>
    intro i z δ dY hi hI hke hX hS hdone
    have ht := sc_mk_lt (n := n) (c := k) (p := p) (i := i) hR hk hp
    have more : ∀ δ' : Nat → Nat, (∀ D, δ D ≠ 0 → δ' D = δ D) → (sc_tk R n k p i → δ' (sc_mk R n k p i) ≠ 0) → (∀ p' i', (p' < p ∨ (p' = p ∧ i' < i + 1)) → i' < m → sc_tk R n k p' i' → δ' (sc_mk R n k p' i') ≠ 0) := by
      intro δ' hold hnew p' i' hlt hi' htk
      by_cases y : p' = p ∧ i' = i
      · rw [y.1, y.2] at htk ⊢; exact hnew htk
      · have := hdone p' i' (by omega) hi' htk
        rw [hold _ this]; exact this
    refine br_f (nI_ge (by omega) (by omega)) (br_f (nI_ge (b := 12) (by omega) (by decide)) ?_)
    refine sy_can hP hn hR hk hp (by omega) (fun y => br_f (by decide) ?_) (fun y => br_t rfl (nm_r (nI_1 i) ?_))
    · refine sy_taken hP hn hR hk hp (by omega) (br_f (nI_pos (by omega)) (br_f (nI_ge (b := 1215) (by omega) (by decide)) ⟨pk_in (sc_mk R n k p i) 1215 (by omega), ?_⟩))
      rw [nI_clamp (by omega), hX _ ht]
      by_cases x : δ (sc_mk R n k p i) = 0
      · have hS' : sc_S R n m k (sc_mk R n k p i) := ⟨p, i, hp, by omega, y, rfl⟩
        obtain ⟨a1, a2, a3⟩ := sc_YI_new hI hke hk ht hS' x
        refine br_f (by rw [x]; decide) ⟨pk_in (sc_mk R n k p i) 1215 (by omega), nm_e (nm_r (nI_1 i) ?_)⟩
        refine ih (i + 1) 1 _ _ (by omega) a1 (by rw [a2 k (by omega)]; exact hke) (fun D hD => ?_) (Or.inr ⟨rfl, ?_⟩) (more _ a2 (fun _ => by rw [sc_up_s]; omega))
        · by_cases w : D = sc_mk R n k p i
          · rw [w, pk_us, sc_up_s, nI_1]; exact (sc_dI_s (e + 1)).symm
          · rw [pk_un w, sc_up_n w]; exact hX D hD
        · rcases hS with ⟨_, q⟩ | ⟨_, q⟩
          · rw [← q]; omega
          · omega
      · have hb := hI.2.2.2.1 _ ht
        refine br_t (sc_dI_pos x (by omega)) (nm_r (nI_1 i) ?_)
        exact ih (i + 1) z δ dY (by omega) hI hke hX hS (more δ (fun _ _ => rfl) (fun _ => x))
    · exact ih (i + 1) z δ dY (by omega) hI hke hX hS (more δ (fun _ _ => rfl) (fun w => absurd w y))
theorem sy_sp5 {post : Int32 → SY → Prop} {k e : Nat} {δ0 : Nat → Nat}
    (hm : m ≤ 12) (hP : sc_PW pw) (hn : n ≤ 4) (hR : sc_RO R) (hk : k < sc_lm n) (he : e < 1215)
    (h : ∀ z δ dY, sc_YI R n m e (k + 1) δ → sc_YA n δ dY → sc_Sp n z δ0 δ → post (nI z) ((nI n), (nI (sc_lm n)), (nI m), (nI ac), pw, (sc_rA (R 0)), (sc_rA (R 1)), (sc_rA (R 2)), (sc_rA (R 3)), (sc_rA (R 4)), (sc_rA (R 5)), (sc_rA (R 6)), (sc_rA (A 0)), (sc_rA (A 1)), (sc_rA (A 2)), dY, wY, lY)) :
    ∀ d p z δ dY, p + d = n → sc_YI R n m e k δ → δ k = e + 1 → sc_YA n δ dY → sc_Sp n z δ0 δ → (∀ p' i, p' < p → i < m → sc_tk R n k p' i → δ (sc_mk R n k p' i) ≠ 0) →
      wY_spread_5 post (nI k) (nI e) (nI n) (nI (sc_lm n)) (nI m) (nI ac) (d + 1) (nI z) (nI p) pw (sc_rA (R 0)) (sc_rA (R 1)) (sc_rA (R 2)) (sc_rA (R 3)) (sc_rA (R 4)) (sc_rA (R 5)) (sc_rA (R 6)) (sc_rA (A 0)) (sc_rA (A 1)) (sc_rA (A 2)) dY wY lY := by
  intro d
  induction d with
  | zero =>
    intro p z δ dY hp hI hke hX hS hdone
    have ee : p = n := by omega
    subst ee
    refine br_t (nI_le (Nat.le_refl _) (by omega)) ⟨?_, h z δ dY (sc_YI_next hI hke ?_) hX hS⟩
    · rcases hS with ⟨rfl, _⟩ | ⟨rfl, _⟩
      · rfl
      · rfl
    · rintro c' ⟨p', i, h1, h2, h3, rfl⟩
      exact ⟨hdone p' i h1 h2 h3, hI.2.2.2.1 _ (sc_mk_lt hR hk h1)⟩
  | succ d ih =>
    intro p z δ dY hp hI hke hX hS hdone
    refine br_f (nI_ge (by omega) (by omega)) ⟨m + 1, ?_⟩
    refine sy_sp17 (δ0 := δ0) hm hP hn hR hk (by omega) he (fun z δ dY g1 g2 g3 g4 g5 => ?_) m 0 z δ dY (by omega) hI hke hX hS (fun p' i' h1 h2 h3 => ?_)
    · exact ih (p + 1) z δ dY (by omega) g1 g2 g3 g4 g5
    · exact hdone p' i' (by omega) h2 h3
theorem sy_spread {post : Int32 → SY → Prop} {k e : Nat} {δ : Nat → Nat}
    (hm : m ≤ 12) (hP : sc_PW pw) (hn : n ≤ 4) (hR : sc_RO R) (hk : k < sc_lm n) (he : e < 1215) (hI : sc_YI R n m e k δ) (hke : δ k = e + 1) (hX : sc_YA n δ dY)
    (h : ∀ z δ' dY, sc_YI R n m e (k + 1) δ' → sc_YA n δ' dY → sc_Sp n z δ δ' → post (nI z) ((nI n), (nI (sc_lm n)), (nI m), (nI ac), pw, (sc_rA (R 0)), (sc_rA (R 1)), (sc_rA (R 2)), (sc_rA (R 3)), (sc_rA (R 4)), (sc_rA (R 5)), (sc_rA (R 6)), (sc_rA (A 0)), (sc_rA (A 1)), (sc_rA (A 2)), dY, wY, lY)) : wpY_spread post ((nI n), (nI (sc_lm n)), (nI m), (nI ac), pw, (sc_rA (R 0)), (sc_rA (R 1)), (sc_rA (R 2)), (sc_rA (R 3)), (sc_rA (R 4)), (sc_rA (R 5)), (sc_rA (R 6)), (sc_rA (A 0)), (sc_rA (A 1)), (sc_rA (A 2)), dY, wY, lY) (nI k) (nI e) :=
  ⟨n + 1, sy_sp5 (δ0 := δ) hm hP hn hR hk he h n 0 0 δ dY (by omega) hI hke hX (Or.inl ⟨rfl, rfl⟩) (fun p' i h' => by omega)⟩
theorem sy_ex52 {post : SY → Prop} {J : Int32 → Int32 → Int32 → Int32 → Int32 → Int32 → (Nat → Int32) → (Nat → Int32) → (Nat → Int32) → (Nat → Int32) → (Nat → Int32) → (Nat → Int32) → (Nat → Int32) → (Nat → Int32) → (Nat → Int32) → (Nat → Int32) → (Nat → Int32) → (Nat → Int32) → (Nat → Int32) → (Nat → Int32) → Prop} {e : Nat}
    (hm : m ≤ 12) (hP : sc_PW pw) (hn : n ≤ 4) (hR : sc_RO R) (he : e < 1215)
    (hJ : ∀ z δ dY, sc_YI R n m e (sc_lm n) δ → sc_YA n δ dY → sc_YM n e z δ → J (nI z) (nI (e + 1)) (nI n) (nI (sc_lm n)) (nI m) (nI ac) pw (sc_rA (R 0)) (sc_rA (R 1)) (sc_rA (R 2)) (sc_rA (R 3)) (sc_rA (R 4)) (sc_rA (R 5)) (sc_rA (R 6)) (sc_rA (A 0)) (sc_rA (A 1)) (sc_rA (A 2)) dY wY lY) :
    ∀ d k z δ dY, k + d = sc_lm n → sc_YI R n m e k δ → sc_YA n δ dY → sc_YM n e z δ → wY_explore_52 post J (nI e) (d + 1) (nI z) (nI k) (nI n) (nI (sc_lm n)) (nI m) (nI ac) pw (sc_rA (R 0)) (sc_rA (R 1)) (sc_rA (R 2)) (sc_rA (R 3)) (sc_rA (R 4)) (sc_rA (R 5)) (sc_rA (R 6)) (sc_rA (A 0)) (sc_rA (A 1)) (sc_rA (A 2)) dY wY lY := by
  have hl := sc_lm_le hn
  intro d
  induction d with
  | zero =>
    intro k z δ dY hk hI hX hM
    have ee : k = sc_lm n := by omega
    rw [ee] at hI ⊢
    exact br_t (nI_le (Nat.le_refl _) (by omega)) (nm_r (nI_1 e) (hJ z δ dY hI hX hM))
  | succ d ih =>
    intro k z δ dY hk hI hX hM
    have hb := hI.2.2.2.1 k (by omega)
    refine br_f (nI_ge (by omega) (by omega)) (br_f (nI_ge (b := 1215) (by omega) (by decide)) ⟨pk_in k 1215 (by omega), ?_⟩)
    rw [nI_clamp (by omega), hX k (by omega), sc_dI_eq (by omega) (by omega)]
    refine ⟨fun y => ?_, fun y => nm_r (nI_1 k) (ih (k + 1) z δ dY (by omega) (sc_YI_skip hI y) hX hM)⟩
    refine sy_spread hm hP hn hR (by omega) he hI y hX (fun z' δ' dY' g1 g2 g3 => ?_)
    rcases g3 with ⟨rfl, rfl⟩ | ⟨rfl, g3⟩
    · exact br_t rfl (nm_r (nI_1 k) (ih (k + 1) z δ' dY' (by omega) g1 g2 hM))
    · refine br_f (by decide) (nm_r (nI_1 k) (ih (k + 1) 1 δ' dY' (by omega) g1 g2 (Or.inr ⟨rfl, ?_⟩)))
      rcases hM with ⟨_, _, q⟩ | ⟨_, q⟩ <;> omega
theorem sy_ex36 {post : SY → Prop} (hm : m ≤ 12) (hP : sc_PW pw) (hn : n ≤ 4) (hR : sc_RO R) (h : ∀ dY, sc_YR R n m dY → post ((nI n), (nI (sc_lm n)), (nI m), (nI ac), pw, (sc_rA (R 0)), (sc_rA (R 1)), (sc_rA (R 2)), (sc_rA (R 3)), (sc_rA (R 4)), (sc_rA (R 5)), (sc_rA (R 6)), (sc_rA (A 0)), (sc_rA (A 1)), (sc_rA (A 2)), dY, wY, lY)) :
    ∀ d e z δ dY, e + d = sc_lm n → sc_YA n δ dY → ((z = 0 ∧ sc_Dt (sc_S R n m) (sc_lm n) (sc_st n) δ ∧ ∀ c, c < sc_lm n → δ c ≤ 2000) ∨ (z = 1 ∧ sc_YI R n m e 0 δ ∧ e + 1 ≤ sc_cY n δ ∧ ∀ c, c < sc_lm n → δ c ≤ e + 1)) → wY_explore_36 post (d + 1) (nI z) (nI e) (nI n) (nI (sc_lm n)) (nI m) (nI ac) pw (sc_rA (R 0)) (sc_rA (R 1)) (sc_rA (R 2)) (sc_rA (R 3)) (sc_rA (R 4)) (sc_rA (R 5)) (sc_rA (R 6)) (sc_rA (A 0)) (sc_rA (A 1)) (sc_rA (A 2)) dY wY lY := by
  have hl := sc_lm_le hn
  intro d
  induction d with
  | zero =>
    intro e z δ dY he hX hz
    have ee : e = sc_lm n := by omega
    rcases hz with ⟨rfl, hz⟩ | ⟨rfl, _, hz, _⟩
    · exact br_t (by rw [ee]; exact nI_le (Nat.le_refl _) (by omega)) (h dY ⟨δ, hX, hz⟩)
    · have := sc_cn_le (fun c => δ c ≠ 0) (sc_lm n)
      unfold sc_cY at hz
      omega
  | succ d ih =>
    intro e z δ dY he hX hz
    refine br_f (nI_ge (by omega) (by omega)) ?_
    rcases hz with ⟨rfl, hz⟩ | ⟨rfl, hI, hc, hz⟩
    · exact br_t rfl (h dY ⟨δ, hX, hz⟩)
    · refine br_f (by decide) ⟨sc_lm n + 1, ?_⟩
      refine sy_ex52 hm hP hn hR (by omega) (fun z' δ' dY' g1 g2 g3 => ?_) (sc_lm n) 0 0 δ dY (by omega) hI hX (Or.inl ⟨rfl, hz, hc⟩)
      refine ih (e + 1) z' δ' dY' (by omega) g2 ?_
      rcases g3 with ⟨rfl, q1, q2⟩ | ⟨rfl, q⟩
      · exact Or.inl ⟨rfl, sc_YI_end g1 q1, fun c hc => by have := q1 c hc; omega⟩
      · exact Or.inr ⟨rfl, sc_YI_round g1, q, fun c hc => g1.2.2.2.1 c hc⟩
theorem sy_ex2 {post : SY → Prop} (hm : m ≤ 12) (hP : sc_PW pw) (hn : n ≤ 4) (hR : sc_RO R) (h : ∀ dY, sc_YR R n m dY → post ((nI n), (nI (sc_lm n)), (nI m), (nI ac), pw, (sc_rA (R 0)), (sc_rA (R 1)), (sc_rA (R 2)), (sc_rA (R 3)), (sc_rA (R 4)), (sc_rA (R 5)), (sc_rA (R 6)), (sc_rA (A 0)), (sc_rA (A 1)), (sc_rA (A 2)), dY, wY, lY)) :
    ∀ d i dY, i + d = 1215 → (∀ c, c < i → dY c = -1) → wY_explore_2 post (nI n) (nI (sc_lm n)) (nI m) (nI ac) (d + 1) (nI i) pw (sc_rA (R 0)) (sc_rA (R 1)) (sc_rA (R 2)) (sc_rA (R 3)) (sc_rA (R 4)) (sc_rA (R 5)) (sc_rA (R 6)) (sc_rA (A 0)) (sc_rA (A 1)) (sc_rA (A 2)) dY wY lY := by
  have hl := sc_lm_le hn
  have hst := sc_st_lt n
  intro d
  induction d with
  | zero =>
    intro i dY hi hd
    have ee : i = 1215 := by omega
    subst ee
    have e1 : nI n + 1 = nI (n + 1) := nI_1 n
    have p2 : pw (nI n + 1).toNatClampNeg * nI n = nI (sc_st n) := by rw [e1, nI_clamp (by omega), hP (n + 1) (by omega), pk_mul]; rfl
    refine br_t (nI_le (a := 1215) (Nat.le_refl _) (by decide)) ⟨pk_in (n + 1) 6 (by omega) e1, ?_⟩
    rw [p2]
    refine ⟨pk_in (sc_st n) 1215 (by omega), nm_e ⟨sc_lm n + 1, ?_⟩⟩
    rw [nI_clamp (by omega)]
    have a := sc_YI_0 (R := R) (m := m) hn
    refine sy_ex36 hm hP hn hR h (sc_lm n) 0 1 (sc_up (fun _ => 0) (sc_st n) 1) _ (by omega) (fun c hc => ?_) (Or.inr ⟨rfl, a.1, a.2, fun c hc => ?_⟩)
    · by_cases z : c = sc_st n
      · rw [z, pk_us, sc_up_s]; rfl
      · rw [pk_un z, sc_up_n z, hd c (by omega)]; rfl
    · by_cases z : c = sc_st n
      · rw [z, sc_up_s]; omega
      · rw [sc_up_n z]; omega
  | succ d ih =>
    intro i dY hi hd
    refine br_f (nI_ge (b := 1215) (by omega) (by decide)) ⟨pk_in i 1215 (by omega), nm_e (nm_r (nI_1 i) ?_)⟩
    refine ih (i + 1) _ (by omega) (fun C hC => ?_)
    rw [nI_clamp (by omega)]
    by_cases z : C = i
    · rw [z, pk_us]
    · rw [pk_un z]; exact hd C (by omega)
theorem sy_explore {post : SY → Prop} (hm : m ≤ 12) (hP : sc_PW pw) (hn : n ≤ 4) (hR : sc_RO R) (h : ∀ dY, sc_YR R n m dY → post ((nI n), (nI (sc_lm n)), (nI m), (nI ac), pw, (sc_rA (R 0)), (sc_rA (R 1)), (sc_rA (R 2)), (sc_rA (R 3)), (sc_rA (R 4)), (sc_rA (R 5)), (sc_rA (R 6)), (sc_rA (A 0)), (sc_rA (A 1)), (sc_rA (A 2)), dY, wY, lY)) : wpY_explore post ((nI n), (nI (sc_lm n)), (nI m), (nI ac), pw, (sc_rA (R 0)), (sc_rA (R 1)), (sc_rA (R 2)), (sc_rA (R 3)), (sc_rA (R 4)), (sc_rA (R 5)), (sc_rA (R 6)), (sc_rA (A 0)), (sc_rA (A 1)), (sc_rA (A 2)), dY, wY, lY) :=
  ⟨1216, sy_ex2 hm hP hn hR h 1215 0 dY (by omega) (fun c hc => by omega)⟩
end YC
end
section
/-! 13: the relation, and the methods that only look or store -/
def sc_G (n m ac : Nat) (R A : Nat → Nat → Nat) (kn ex : Int32) (dp qu pw : Nat → Int32) : Prop :=
  1 ≤ n ∧ n ≤ 4 ∧ m ≤ 12 ∧ ac ≤ 4 ∧ sc_RO R ∧ sc_AO A ∧ sc_PW pw ∧ (ex = 0 ∨ (ex = 1 ∧ sc_XR R n m kn dp qu))
def i_Rel (_k : Nat) (u : SX) (v : SY) : Prop :=
  ∃ (n m ac : Nat) (R A : Nat → Nat → Nat) (sh ho kn ex : Int32) (dp qu av ot pw dY wY lY : Nat → Int32), sc_G n m ac R A kn ex dp qu pw ∧ u = (sh, ho, (nI n), (nI m), (nI ac), kn, ex, (sc_rA (R 0)), (sc_rA (R 1)), (sc_rA (R 2)), (sc_rA (R 3)), (sc_rA (R 4)), (sc_rA (R 5)), (sc_rA (R 6)), (sc_rA (A 0)), (sc_rA (A 1)), (sc_rA (A 2)), dp, qu, av, ot) ∧ v = ((nI n), (nI (sc_lm n)), (nI m), (nI ac), pw, (sc_rA (R 0)), (sc_rA (R 1)), (sc_rA (R 2)), (sc_rA (R 3)), (sc_rA (R 4)), (sc_rA (R 5)), (sc_rA (R 6)), (sc_rA (A 0)), (sc_rA (A 1)), (sc_rA (A 2)), dY, wY, lY)
theorem sc_el {k : Nat} {u : SX} {v : SY} {P : SX → SY → Prop}
    (h : ∀ (n m ac : Nat) (R A : Nat → Nat → Nat) (sh ho kn ex : Int32) (dp qu av ot pw dY wY lY : Nat → Int32), sc_G n m ac R A kn ex dp qu pw → P (sh, ho, (nI n), (nI m), (nI ac), kn, ex, (sc_rA (R 0)), (sc_rA (R 1)), (sc_rA (R 2)), (sc_rA (R 3)), (sc_rA (R 4)), (sc_rA (R 5)), (sc_rA (R 6)), (sc_rA (A 0)), (sc_rA (A 1)), (sc_rA (A 2)), dp, qu, av, ot) ((nI n), (nI (sc_lm n)), (nI m), (nI ac), pw, (sc_rA (R 0)), (sc_rA (R 1)), (sc_rA (R 2)), (sc_rA (R 3)), (sc_rA (R 4)), (sc_rA (R 5)), (sc_rA (R 6)), (sc_rA (A 0)), (sc_rA (A 1)), (sc_rA (A 2)), dY, wY, lY)) (I : i_Rel k u v) : P u v := by
  obtain ⟨n, m, ac, R, A, sh, ho, kn, ex, dp, qu, av, ot, pw, dY, wY, lY, g, e1, e2⟩ := I
  rw [e1, e2]
  exact h n m ac R A sh ho kn ex dp qu av ot pw dY wY lY g
theorem sc_mkR {k n m ac : Nat} {R A : Nat → Nat → Nat} {sh ho kn ex : Int32} {dp qu av ot pw dY wY lY : Nat → Int32} (g : sc_G n m ac R A kn ex dp qu pw) : i_Rel k (sh, ho, (nI n), (nI m), (nI ac), kn, ex, (sc_rA (R 0)), (sc_rA (R 1)), (sc_rA (R 2)), (sc_rA (R 3)), (sc_rA (R 4)), (sc_rA (R 5)), (sc_rA (R 6)), (sc_rA (A 0)), (sc_rA (A 1)), (sc_rA (A 2)), dp, qu, av, ot) ((nI n), (nI (sc_lm n)), (nI m), (nI ac), pw, (sc_rA (R 0)), (sc_rA (R 1)), (sc_rA (R 2)), (sc_rA (R 3)), (sc_rA (R 4)), (sc_rA (R 5)), (sc_rA (R 6)), (sc_rA (A 0)), (sc_rA (A 1)), (sc_rA (A 2)), dY, wY, lY) :=
  ⟨n, m, ac, R, A, sh, ho, kn, ex, dp, qu, av, ot, pw, dY, wY, lY, g, rfl, rfl⟩
theorem i_up {k : Nat} {u : SX} {v : SY} (h : i_Rel k u v) : i_Rel (k + 5) u v := h
/-! the constructors -/
theorem sc_pw_u {pw : Nat → Int32} : ∀ d i, i + d = 6 → 1 ≤ i → ∀ {post : SY → Prop} {c l r a : Int32} {f1 f2 f3 f4 f5 f6 f7 f8 f9 f10 f11 f12 f13 : Nat → Int32} (pw : Nat → Int32), (∀ j, j < i → pw j = nI (3 ^ j)) →
    (∀ pw, sc_PW pw → vp_in (c + 1) 6 ∧ ∀ x : Int32, x = (pw (c + 1).toNatClampNeg) * (c + 1) → post (c, x, r, a, pw, f1, f2, f3, f4, f5, f6, f7, f8, f9, f10, f11, f12, f13)) →
    wY_init_148 post c l r a (d + 1) (nI i) pw f1 f2 f3 f4 f5 f6 f7 f8 f9 f10 f11 f12 f13 := by
  intro d
  induction d with
  | zero =>
    intro i hi h1 post c l r a f1 f2 f3 f4 f5 f6 f7 f8 f9 f10 f11 f12 f13 pw hp h
    have e : i = 6 := by omega
    subst e
    exact br_t (nI_le (a := 6) (Nat.le_refl _) (by decide)) (h pw hp)
  | succ d ih =>
    intro i hi h1 post c l r a f1 f2 f3 f4 f5 f6 f7 f8 f9 f10 f11 f12 f13 pw hp h
    have e1 : nI i - 1 = nI (i - 1) := pk_sub (b := 1) h1
    refine br_f (nI_ge (b := 6) (by omega) (by decide)) ⟨pk_in (i - 1) 6 (by omega) e1, pk_in i 6 (by omega), nm_e (nm_r (nI_1 i) ?_)⟩
    refine ih (i + 1) (by omega) (by omega) _ (fun j hj => ?_) h
    rw [e1, nI_clamp (by omega), nI_clamp (by omega), hp (i - 1) (by omega)]
    by_cases z : j = i
    · rw [z, pk_us]
      show nI 3 * nI (3 ^ (i - 1)) = nI (3 ^ i)
      rw [pk_mul]
      obtain ⟨t, rfl⟩ : ∃ t, i = t + 1 := ⟨i - 1, by omega⟩
      rw [Nat.add_sub_cancel, Nat.pow_succ, Nat.mul_comm]
    · rw [pk_un z]; exact hp j (by omega)
theorem sc_ini {n : Nat} (h1 : 1 ≤ n) (hn : n ≤ 4) : wY_init_136 (fun v => i_Rel 1 (0, 0, nI n, 0, 0, 0, 0, (fun _ => 0), (fun _ => 0), (fun _ => 0), (fun _ => 0), (fun _ => 0), (fun _ => 0), (fun _ => 0), (fun _ => 0), (fun _ => 0), (fun _ => 0), (fun _ => 0), (fun _ => 0), (fun _ => 0), (fun _ => 0)) v) (nI n) 0 0 0 0 (fun _ => 0) (fun _ => 0) (fun _ => 0) (fun _ => 0) (fun _ => 0) (fun _ => 0) (fun _ => 0) (fun _ => 0) (fun _ => 0) (fun _ => 0) (fun _ => 0) (fun _ => 0) (fun _ => 0) (fun _ => 0) := by
  refine nm_e ⟨6, sc_pw_u (pw := fun _ => 0) 5 1 (by omega) (by omega) (upd (fun _ => 0) 0 1) (fun j hj => ?_) (fun pw hP => ?_)⟩
  · have : j = 0 := by omega
    rw [this]; rfl
  · have e1 : nI n + 1 = nI (n + 1) := nI_1 n
    refine ⟨pk_in (n + 1) 6 (by omega) e1, nm_r (e' := nI (sc_lm n)) ?_ ?_⟩
    · rw [e1, nI_clamp (by omega), hP (n + 1) (by omega), pk_mul]
      unfold sc_lm
      rw [Nat.pow_succ, Nat.mul_comm 3 (3 ^ n)]
    · exact ⟨n, 0, 0, fun _ _ => 0, fun _ _ => 0, 0, 0, 0, 0, fun _ => 0, fun _ => 0, fun _ => 0, fun _ => 0, pw, fun _ => 0, fun _ => 0, fun _ => 0, ⟨h1, hn, by omega, by omega, fun _ => (by decide : 0 < 3 ∧ 0 < 3 ∧ 0 < 4 ∧ 0 < 4 ∧ 0 < 3 ∧ 0 < 4 ∧ 0 < 5), fun _ => (by decide : 0 < 3 ∧ 0 ≤ 4 ∧ 0 < 4), hP, Or.inl rfl⟩, rfl, rfl⟩
theorem i_vc0 (k0 : Int32) : wpX_init (fun u => wpY_init (fun v => i_Rel 1 u v) k0) k0 := by
  by_cases a : 1 ≤ k0
  · by_cases b : k0 ≤ 4
    · obtain ⟨j, hj, rfl⟩ := nI_of2 (M := 4) (n := 4) (x := k0) (by decide) (by rw [Int32.not_lt]; exact Int32.le_trans (by decide) a) b
      have h1 : 1 ≤ j := (nI_leI (a := 1) (b := j) (by decide) (by omega)).mp a
      exact br_t a (br_t b (br_t a (br_t b (sc_ini h1 hj))))
    · exact br_t a (br_f b (br_t a (br_f b (sc_ini (n := 4) (by decide) (by decide)))))
  · exact br_f a (br_t (by decide) (br_f a (sc_ini (n := 1) (by decide) (by decide))))
theorem i_vc_processes {k : Nat} {u : SX} {v : SY} (I : i_Rel k u v) (hk : k + 5 ≤ 2561) : wpX_processes (fun r => wpY_processes (fun r' => r' = r ∧ i_Rel (k + 5) u v) v) u := by
  refine sc_el (P := fun u v => wpX_processes (fun r => wpY_processes (fun r' => r' = r ∧ i_Rel (k + 5) u v) v) u) ?_ I
  intro n m ac R A sh ho kn ex dp qu av ot pw dY wY lY g
  exact ⟨rfl, sc_mkR g⟩
theorem i_vc_limit {k : Nat} {u : SX} {v : SY} (I : i_Rel k u v) (hk : k + 5 ≤ 2561) : wpX_limit (fun r => wpY_limit (fun r' => r' = r ∧ i_Rel (k + 5) u v) v) u := by
  refine sc_el (P := fun u v => wpX_limit (fun r => wpY_limit (fun r' => r' = r ∧ i_Rel (k + 5) u v) v) u) ?_ I
  intro n m ac R A sh ho kn ex dp qu av ot pw dY wY lY g
  refine sx_limit g.2.1 ?_
  exact ⟨rfl, sc_mkR g⟩
theorem i_vc_rules {k : Nat} {u : SX} {v : SY} (I : i_Rel k u v) (hk : k + 5 ≤ 2561) : wpX_rules (fun r => wpY_rules (fun r' => r' = r ∧ i_Rel (k + 5) u v) v) u := by
  refine sc_el (P := fun u v => wpX_rules (fun r => wpY_rules (fun r' => r' = r ∧ i_Rel (k + 5) u v) v) u) ?_ I
  intro n m ac R A sh ho kn ex dp qu av ot pw dY wY lY g
  exact ⟨rfl, sc_mkR g⟩
theorem i_vc_clearAlarms {k : Nat} {u : SX} {v : SY} (I : i_Rel k u v) (hk : k + 5 ≤ 2561) : wpX_clearAlarms (fun r u' => wpY_clearAlarms (fun r' v' => r' = r ∧ i_Rel (k + 5) u' v') v) u := by
  refine sc_el (P := fun u v => wpX_clearAlarms (fun r u' => wpY_clearAlarms (fun r' v' => r' = r ∧ i_Rel (k + 5) u' v') v) u) ?_ I
  intro n m ac R A sh ho kn ex dp qu av ot pw dY wY lY g
  obtain ⟨g1, g2, g3, g4, g5, g6, g7, g8⟩ := g
  exact ⟨rfl, sc_mkR (ac := 0) ⟨g1, g2, g3, by omega, g5, g6, g7, g8⟩⟩
/-! addRule -/
theorem sc_rA_u (f : Nat → Nat) {m v : Nat} (hm : m < 2 ^ 31) : upd (sc_rA f) (nI m).toNatClampNeg (nI v) = sc_rA (sc_up f m v) := by
  rw [nI_clamp hm]
  funext j
  by_cases z : j = m
  · rw [z, pk_us]; unfold sc_rA; rw [sc_up_s]
  · rw [pk_un z]; unfold sc_rA; rw [sc_up_n z]
def sc_v7 (a0 a1 a2 a3 a4 a5 a6 : Nat) : Nat → Nat
  | 0 => a0
  | 1 => a1
  | 2 => a2
  | 3 => a3
  | 4 => a4
  | 5 => a5
  | _ => a6
def sc_RU (R : Nat → Nat → Nat) (m : Nat) (v : Nat → Nat) : Nat → Nat → Nat := fun k => sc_up (R k) m (v k)
theorem sc_RU_ok {R : Nat → Nat → Nat} {m : Nat} {v : Nat → Nat} (h : sc_RO R) (hv : v 0 < 3 ∧ v 1 < 3 ∧ v 2 < 4 ∧ v 3 < 4 ∧ v 4 < 3 ∧ v 5 < 4 ∧ v 6 < 5) : sc_RO (sc_RU R m v) := by
  intro j
  unfold sc_RU
  by_cases z : j = m
  · rw [z, sc_up_s, sc_up_s, sc_up_s, sc_up_s, sc_up_s, sc_up_s, sc_up_s]; exact hv
  · rw [sc_up_n z, sc_up_n z, sc_up_n z, sc_up_n z, sc_up_n z, sc_up_n z, sc_up_n z]; exact h j
theorem sc_AU_ok {A : Nat → Nat → Nat} {m : Nat} {v : Nat → Nat} (h : sc_AO A) (hv : v 0 < 3 ∧ v 1 ≤ 4 ∧ v 2 < 4) : sc_AO (sc_RU A m v) := by
  intro j
  unfold sc_RU
  by_cases z : j = m
  · rw [z, sc_up_s, sc_up_s, sc_up_s]; exact hv
  · rw [sc_up_n z, sc_up_n z, sc_up_n z]; exact h j
theorem i_vc_addRule {k : Nat} {u : SX} {v : SY} (I : i_Rel k u v) (hk : k + 5 ≤ 2561) (v1 : Int32) (v2 : Int32) (v3 : Int32) (v4 : Int32) : wpX_addRule (fun r u' => wpY_addRule (fun r' v' => r' = r ∧ i_Rel (k + 5) u' v') v v1 v2 v3 v4) u v1 v2 v3 v4 := by
  refine sc_el (P := fun u v => wpX_addRule (fun r u' => wpY_addRule (fun r' v' => r' = r ∧ i_Rel (k + 5) u' v') v v1 v2 v3 v4) u v1 v2 v3 v4) ?_ I
  intro n m ac R A sh ho kn ex dp qu av ot pw dY wY lY g
  have fin : ∀ r : Int32, r = r ∧ i_Rel (k + 5) (sh, ho, (nI n), (nI m), (nI ac), kn, ex, (sc_rA (R 0)), (sc_rA (R 1)), (sc_rA (R 2)), (sc_rA (R 3)), (sc_rA (R 4)), (sc_rA (R 5)), (sc_rA (R 6)), (sc_rA (A 0)), (sc_rA (A 1)), (sc_rA (A 2)), dp, qu, av, ot) ((nI n), (nI (sc_lm n)), (nI m), (nI ac), pw, (sc_rA (R 0)), (sc_rA (R 1)), (sc_rA (R 2)), (sc_rA (R 3)), (sc_rA (R 4)), (sc_rA (R 5)), (sc_rA (R 6)), (sc_rA (A 0)), (sc_rA (A 1)), (sc_rA (A 2)), dY, wY, lY) := fun r => ⟨rfl, sc_mkR g⟩
  by_cases c1 : v1 < 0
  · exact br_t c1 (br_t c1 (fin _))
  by_cases c2 : v1 ≤ 8
  rotate_left
  · exact br_f c1 (br_f c2 (br_f c1 (br_f c2 (fin _))))
  by_cases c3 : v2 < 0
  · exact br_f c1 (br_t c2 (br_t c3 (br_f c1 (br_t c2 (br_t c3 (fin _))))))
  by_cases c4 : v2 ≤ 15
  rotate_left
  · exact br_f c1 (br_t c2 (br_f c3 (br_f c4 (br_f c1 (br_t c2 (br_f c3 (br_f c4 (fin _))))))))
  by_cases c5 : v3 < 0
  · exact br_f c1 (br_t c2 (br_f c3 (br_t c4 (br_t c5 (br_f c1 (br_t c2 (br_f c3 (br_t c4 (br_t c5 (fin _))))))))))
  by_cases c6 : v3 ≤ 11
  rotate_left
  · exact br_f c1 (br_t c2 (br_f c3 (br_t c4 (br_f c5 (br_f c6 (br_f c1 (br_t c2 (br_f c3 (br_t c4 (br_f c5 (br_f c6 (fin _))))))))))))
  by_cases c7 : v4 < 0
  · exact br_f c1 (br_t c2 (br_f c3 (br_t c4 (br_f c5 (br_t c6 (br_t c7 (br_f c1 (br_t c2 (br_f c3 (br_t c4 (br_f c5 (br_t c6 (br_t c7 (fin _))))))))))))))
  by_cases c8 : v4 ≤ 4
  rotate_left
  · exact br_f c1 (br_t c2 (br_f c3 (br_t c4 (br_f c5 (br_t c6 (br_f c7 (br_f c8 (br_f c1 (br_t c2 (br_f c3 (br_t c4 (br_f c5 (br_t c6 (br_f c7 (br_f c8 (fin _))))))))))))))))
  obtain ⟨g1, g2, g3, g4, g5, g6, g7, g8⟩ := g
  by_cases c9 : m = 12
  · have e1 : nI m = 12 := by rw [c9]; rfl
    have e2 : ¬ nI m < 12 := nI_nlt (b := 12) (by omega) (by omega)
    exact br_f c1 (br_t c2 (br_f c3 (br_t c4 (br_f c5 (br_t c6 (br_f c7 (br_t c8 (br_t e1 (br_f c1 (br_t c2 (br_f c3 (br_t c4 (br_f c5 (br_t c6 (br_f c7 (br_t c8 (br_f e2 (fin _))))))))))))))))))
  have e1 : ¬ nI m = 12 := fun z => c9 ((nI_eq (a := m) (b := 12) (by omega) (by decide)).mp z)
  have e2 : nI m < 12 := nI_lt (b := 12) (by omega) (by decide)
  obtain ⟨a, ha, rfl⟩ := nI_of2 (M := 8) (n := 8) (by decide) c1 c2
  obtain ⟨b, hb, rfl⟩ := nI_of2 (M := 15) (n := 15) (by decide) c3 c4
  obtain ⟨c, hc, rfl⟩ := nI_of2 (M := 11) (n := 11) (by decide) c5 c6
  obtain ⟨t, ht, rfl⟩ := nI_of2 (M := 4) (n := 4) (by decide) c7 c8
  have hm : m < 2 ^ 31 := by omega
  have i12 : vp_in (nI m) 12 := pk_in m 12 (by omega)
  have w0 : upd (sc_rA (R 0)) (nI m).toNatClampNeg (nI a / 3) = sc_rA (sc_RU R m (sc_v7 (a / 3) (a % 3) (b / 4) (b % 4) (c / 4) (c % 4) t) 0) := by
    exact (congrArg (upd _ _) (pk_div (d := 3) (show a < 2 ^ 31 by omega) (by decide) (by decide))).trans (sc_rA_u _ hm)
  have w1 : upd (sc_rA (R 1)) (nI m).toNatClampNeg (nI a - nI a / 3 * 3) = sc_rA (sc_RU R m (sc_v7 (a / 3) (a % 3) (b / 4) (b % 4) (c / 4) (c % 4) t) 1) := by
    exact (congrArg (upd _ _) (pk_rem (d := 3) (show a < 2 ^ 31 by omega) (by decide) (by decide))).trans (sc_rA_u _ hm)
  have w2 : upd (sc_rA (R 2)) (nI m).toNatClampNeg (nI b / 4) = sc_rA (sc_RU R m (sc_v7 (a / 3) (a % 3) (b / 4) (b % 4) (c / 4) (c % 4) t) 2) := by
    exact (congrArg (upd _ _) (pk_div (d := 4) (show b < 2 ^ 31 by omega) (by decide) (by decide))).trans (sc_rA_u _ hm)
  have w3 : upd (sc_rA (R 3)) (nI m).toNatClampNeg (nI b - nI b / 4 * 4) = sc_rA (sc_RU R m (sc_v7 (a / 3) (a % 3) (b / 4) (b % 4) (c / 4) (c % 4) t) 3) := by
    exact (congrArg (upd _ _) (pk_rem (d := 4) (show b < 2 ^ 31 by omega) (by decide) (by decide))).trans (sc_rA_u _ hm)
  have w4 : upd (sc_rA (R 4)) (nI m).toNatClampNeg (nI c / 4) = sc_rA (sc_RU R m (sc_v7 (a / 3) (a % 3) (b / 4) (b % 4) (c / 4) (c % 4) t) 4) := by
    exact (congrArg (upd _ _) (pk_div (d := 4) (show c < 2 ^ 31 by omega) (by decide) (by decide))).trans (sc_rA_u _ hm)
  have w5 : upd (sc_rA (R 5)) (nI m).toNatClampNeg (nI c - nI c / 4 * 4) = sc_rA (sc_RU R m (sc_v7 (a / 3) (a % 3) (b / 4) (b % 4) (c / 4) (c % 4) t) 5) := by
    exact (congrArg (upd _ _) (pk_rem (d := 4) (show c < 2 ^ 31 by omega) (by decide) (by decide))).trans (sc_rA_u _ hm)
  have w6 : upd (sc_rA (R 6)) (nI m).toNatClampNeg (nI t) = sc_rA (sc_RU R m (sc_v7 (a / 3) (a % 3) (b / 4) (b % 4) (c / 4) (c % 4) t) 6) := sc_rA_u _ hm
  have z2 : upd (sc_rA (R 2)) (nI m).toNatClampNeg (nI b >>> ((2 : Int32) &&& 31)) = sc_rA (sc_RU R m (sc_v7 (a / 3) (a % 3) (b / 4) (b % 4) (c / 4) (c % 4) t) 2) := by
    rw [pk_shrN (show b < 2 ^ 31 by omega) ((2 : Int32) &&& 31) 2 (by decide)]; exact sc_rA_u _ hm
  have z3 : upd (sc_rA (R 3)) (nI m).toNatClampNeg (nI b &&& 3) = sc_rA (sc_RU R m (sc_v7 (a / 3) (a % 3) (b / 4) (b % 4) (c / 4) (c % 4) t) 3) := by
    rw [pk_andN (show b < 2 ^ 32 by omega) (m := 3) 2 (by decide)]; exact sc_rA_u _ hm
  have z4 : upd (sc_rA (R 4)) (nI m).toNatClampNeg (nI c >>> ((2 : Int32) &&& 31)) = sc_rA (sc_RU R m (sc_v7 (a / 3) (a % 3) (b / 4) (b % 4) (c / 4) (c % 4) t) 4) := by
    rw [pk_shrN (show c < 2 ^ 31 by omega) ((2 : Int32) &&& 31) 2 (by decide)]; exact sc_rA_u _ hm
  have z5 : upd (sc_rA (R 5)) (nI m).toNatClampNeg (nI c &&& 3) = sc_rA (sc_RU R m (sc_v7 (a / 3) (a % 3) (b / 4) (b % 4) (c / 4) (c % 4) t) 5) := by
    rw [pk_andN (show c < 2 ^ 32 by omega) (m := 3) 2 (by decide)]; exact sc_rA_u _ hm
  have ok : sc_RO (sc_RU R m (sc_v7 (a / 3) (a % 3) (b / 4) (b % 4) (c / 4) (c % 4) t)) := sc_RU_ok g5 (by
    show a / 3 < 3 ∧ a % 3 < 3 ∧ b / 4 < 4 ∧ b % 4 < 4 ∧ c / 4 < 3 ∧ c % 4 < 4 ∧ t < 5
    omega)
  refine br_f c1 (br_t c2 (br_f c3 (br_t c4 (br_f c5 (br_t c6 (br_f c7 (br_t c8 (br_f e1 ⟨by decide, i12, nm_r w0 ⟨by decide, i12, nm_r w1 ⟨i12, nm_r z2 ⟨i12, nm_r z3 ⟨i12, nm_r z4 ⟨i12, nm_r z5 ⟨i12, nm_r w6 (nm_r (nI_1 m) ?_)⟩⟩⟩⟩⟩⟩⟩))))))))
  refine br_f c1 (br_t c2 (br_f c3 (br_t c4 (br_f c5 (br_t c6 (br_f c7 (br_t c8 (br_t e2 ⟨by decide, i12, nm_r w0 ⟨by decide, i12, nm_r w1 ⟨by decide, i12, nm_r w2 ⟨by decide, i12, nm_r w3 ⟨by decide, i12, nm_r w4 ⟨by decide, i12, nm_r w5 ⟨i12, nm_r w6 (nm_r (nI_1 m) ?_)⟩⟩⟩⟩⟩⟩⟩))))))))
  exact ⟨rfl, sc_mkR (R := sc_RU R m (sc_v7 (a / 3) (a % 3) (b / 4) (b % 4) (c / 4) (c % 4) t)) ⟨g1, g2, by omega, g4, ok, g6, g7, Or.inl rfl⟩⟩
theorem i_vc_addAlarm {k : Nat} {u : SX} {v : SY} (I : i_Rel k u v) (hk : k + 5 ≤ 2561) (v1 : Int32) (v2 : Int32) (v3 : Int32) : wpX_addAlarm (fun r u' => wpY_addAlarm (fun r' v' => r' = r ∧ i_Rel (k + 5) u' v') v v1 v2 v3) u v1 v2 v3 := by
  refine sc_el (P := fun u v => wpX_addAlarm (fun r u' => wpY_addAlarm (fun r' v' => r' = r ∧ i_Rel (k + 5) u' v') v v1 v2 v3) u v1 v2 v3) ?_ I
  intro n m ac R A sh ho kn ex dp qu av ot pw dY wY lY g
  have fin : ∀ r : Int32, r = r ∧ i_Rel (k + 5) (sh, ho, (nI n), (nI m), (nI ac), kn, ex, (sc_rA (R 0)), (sc_rA (R 1)), (sc_rA (R 2)), (sc_rA (R 3)), (sc_rA (R 4)), (sc_rA (R 5)), (sc_rA (R 6)), (sc_rA (A 0)), (sc_rA (A 1)), (sc_rA (A 2)), dp, qu, av, ot) ((nI n), (nI (sc_lm n)), (nI m), (nI ac), pw, (sc_rA (R 0)), (sc_rA (R 1)), (sc_rA (R 2)), (sc_rA (R 3)), (sc_rA (R 4)), (sc_rA (R 5)), (sc_rA (R 6)), (sc_rA (A 0)), (sc_rA (A 1)), (sc_rA (A 2)), dY, wY, lY) := fun r => ⟨rfl, sc_mkR g⟩
  by_cases c1 : v1 < 0
  · exact br_t c1 (br_t c1 (fin _))
  by_cases c2 : v1 ≤ 2
  rotate_left
  · exact br_f c1 (br_f c2 (br_f c1 (br_f c2 (fin _))))
  by_cases c3 : v2 < 1
  · exact br_f c1 (br_t c2 (br_t c3 (br_f c1 (br_t c2 (br_t c3 (fin _))))))
  by_cases c4 : v2 ≤ 4
  rotate_left
  · exact br_f c1 (br_t c2 (br_f c3 (br_f c4 (br_f c1 (br_t c2 (br_f c3 (br_f c4 (fin _))))))))
  by_cases c5 : v3 < 0
  · exact br_f c1 (br_t c2 (br_f c3 (br_t c4 (br_t c5 (br_f c1 (br_t c2 (br_f c3 (br_t c4 (br_t c5 (fin _))))))))))
  by_cases c6 : v3 ≤ 3
  rotate_left
  · exact br_f c1 (br_t c2 (br_f c3 (br_t c4 (br_f c5 (br_f c6 (br_f c1 (br_t c2 (br_f c3 (br_t c4 (br_f c5 (br_f c6 (fin _))))))))))))
  obtain ⟨g1, g2, g3, g4, g5, g6, g7, g8⟩ := g
  by_cases c9 : ac = 4
  · have e1 : nI ac = 4 := by rw [c9]; rfl
    have e2 : ¬ nI ac < 4 := nI_nlt (b := 4) (by omega) (by omega)
    exact br_f c1 (br_t c2 (br_f c3 (br_t c4 (br_f c5 (br_t c6 (br_t e1 (br_f c1 (br_t c2 (br_f c3 (br_t c4 (br_f c5 (br_t c6 (br_f e2 (fin _))))))))))))))
  have e1 : ¬ nI ac = 4 := fun z => c9 ((nI_eq (a := ac) (b := 4) (by omega) (by decide)).mp z)
  have e2 : nI ac < 4 := nI_lt (b := 4) (by omega) (by decide)
  have c3' : ¬ v2 < 0 := fun z => c3 (Int32.lt_trans z (by decide))
  obtain ⟨a, ha, rfl⟩ := nI_of2 (M := 2) (n := 2) (by decide) c1 c2
  obtain ⟨b, hb, rfl⟩ := nI_of2 (M := 4) (n := 4) (by decide) c3' c4
  obtain ⟨c, hc, rfl⟩ := nI_of2 (M := 3) (n := 3) (by decide) c5 c6
  have hm : ac < 2 ^ 31 := by omega
  have i4 : vp_in (nI ac) 4 := pk_in ac 4 (by omega)
  have w0 : upd (sc_rA (A 0)) (nI ac).toNatClampNeg (nI a) = sc_rA (sc_RU A ac (sc_v7 a b c 0 0 0 0) 0) := sc_rA_u _ hm
  have w1 : upd (sc_rA (A 1)) (nI ac).toNatClampNeg (nI b) = sc_rA (sc_RU A ac (sc_v7 a b c 0 0 0 0) 1) := sc_rA_u _ hm
  have w2 : upd (sc_rA (A 2)) (nI ac).toNatClampNeg (nI c) = sc_rA (sc_RU A ac (sc_v7 a b c 0 0 0 0) 2) := sc_rA_u _ hm
  have ok : sc_AO (sc_RU A ac (sc_v7 a b c 0 0 0 0)) := sc_AU_ok g6 (by
    show a < 3 ∧ b ≤ 4 ∧ c < 4
    omega)
  refine br_f c1 (br_t c2 (br_f c3 (br_t c4 (br_f c5 (br_t c6 (br_f e1 ⟨i4, nm_r w0 ⟨i4, nm_r w1 ⟨i4, nm_r w2 (nm_r (nI_1 ac) ?_)⟩⟩⟩))))))
  refine br_f c1 (br_t c2 (br_f c3 (br_t c4 (br_f c5 (br_t c6 (br_t e2 ⟨i4, nm_r w0 ⟨i4, nm_r w1 ⟨i4, nm_r w2 (nm_r (nI_1 ac) ?_)⟩⟩⟩))))))
  exact ⟨rfl, sc_mkR (A := sc_RU A ac (sc_v7 a b c 0 0 0 0)) ⟨g1, g2, g3, by omega, g5, ok, g7, g8⟩⟩
/-! dropRule -/
def sc_sf (R : Nat → Nat → Nat) (j : Nat) : Nat → Nat → Nat := fun k => sc_up (R k) j (R k (j + 1))
def sc_rd : Nat → (Nat → Nat → Nat) → Nat → Nat → Nat → Nat
  | 0, R, _ => R
  | d + 1, R, j => sc_rd d (sc_sf R j) (j + 1)
theorem sc_sf_ok {R : Nat → Nat → Nat} {j : Nat} (h : sc_RO R) : sc_RO (sc_sf R j) := sc_RU_ok (v := fun k => R k (j + 1)) h (h (j + 1))
theorem sc_rd_ok : ∀ d (R : Nat → Nat → Nat) j, sc_RO R → sc_RO (sc_rd d R j) := by
  intro d
  induction d with
  | zero => intro R j h; exact h
  | succ d ih => intro R j h; exact ih _ _ (sc_sf_ok h)
theorem sc_rA_s (f : Nat → Nat) {j : Nat} (hj : j + 1 < 2 ^ 31) {x y : Int32} (hx : x = nI j) (hy : y = nI (j + 1)) : upd (sc_rA f) x.toNatClampNeg (sc_rA f y.toNatClampNeg) = sc_rA (sc_up f j (f (j + 1))) := by
  rw [hx, hy, sc_rA_a f hj]
  exact sc_rA_u f (by omega)
theorem sx_dr18 {post : Int32 → SX → Prop} {n m ac : Nat} {A : Nat → Nat → Nat} {sh ho kn ex : Int32} {dp qu av ot : Nat → Int32} (hm : m ≤ 12) : ∀ d j (R : Nat → Nat → Nat), j + 1 + d = m → post (nI (m - 1)) (sh, ho, nI n, nI (m - 1), nI ac, kn, 0, sc_rA (sc_rd d R j 0), sc_rA (sc_rd d R j 1), sc_rA (sc_rd d R j 2), sc_rA (sc_rd d R j 3), sc_rA (sc_rd d R j 4), sc_rA (sc_rd d R j 5), sc_rA (sc_rd d R j 6), sc_rA (A 0), sc_rA (A 1), sc_rA (A 2), dp, qu, av, ot) → wX_dropRule_18 post sh ho (nI n) (nI m) (nI ac) kn ex (d + 1) (nI (j + 1)) (sc_rA (R 0)) (sc_rA (R 1)) (sc_rA (R 2)) (sc_rA (R 3)) (sc_rA (R 4)) (sc_rA (R 5)) (sc_rA (R 6)) (sc_rA (A 0)) (sc_rA (A 1)) (sc_rA (A 2)) dp qu av ot := by
  intro d
  induction d with
  | zero =>
    intro j R hj h
    have e : j + 1 = m := by omega
    exact br_t (by rw [e]; exact nI_le (Nat.le_refl _) (by omega)) (nm_r (pk_sub (b := 1) (by omega)) h)
  | succ d ih =>
    intro j R hj h
    have e1 : nI (j + 1) - 1 = nI j := nI_pred j
    have hj1 : j + 1 < 2 ^ 31 := by omega
    have a1 : vp_in (nI (j + 1)) 12 := pk_in (j + 1) 12 (by omega)
    have a0 : vp_in (nI (j + 1) - 1) 12 := pk_in j 12 (by omega) e1
    refine br_f (nI_ge (by omega) (by omega)) ⟨a1, a0, nm_r (sc_rA_s (R 0) hj1 e1 rfl) ⟨a1, a0, nm_r (sc_rA_s (R 1) hj1 e1 rfl) ⟨a1, a0, nm_r (sc_rA_s (R 2) hj1 e1 rfl) ⟨a1, a0, nm_r (sc_rA_s (R 3) hj1 e1 rfl) ⟨a1, a0, nm_r (sc_rA_s (R 4) hj1 e1 rfl) ⟨a1, a0, nm_r (sc_rA_s (R 5) hj1 e1 rfl) ⟨a1, a0, nm_r (sc_rA_s (R 6) hj1 e1 rfl) (nm_r (nI_1 (j + 1)) ?_)⟩⟩⟩⟩⟩⟩⟩
    exact ih (j + 1) (sc_sf R j) (by omega) h
theorem sy_dr16 {post : Int32 → SY → Prop} {n m ac : Nat} {A : Nat → Nat → Nat} {pw dY wY lY : Nat → Int32} (hm : m ≤ 12) : ∀ d j (R : Nat → Nat → Nat), j + 1 + d = m → post (nI (m - 1)) (nI n, nI (sc_lm n), nI (m - 1), nI ac, pw, sc_rA (sc_rd d R j 0), sc_rA (sc_rd d R j 1), sc_rA (sc_rd d R j 2), sc_rA (sc_rd d R j 3), sc_rA (sc_rd d R j 4), sc_rA (sc_rd d R j 5), sc_rA (sc_rd d R j 6), sc_rA (A 0), sc_rA (A 1), sc_rA (A 2), dY, wY, lY) → wY_dropRule_16 post (nI n) (nI (sc_lm n)) (nI m) (nI ac) (d + 1) (nI j) pw (sc_rA (R 0)) (sc_rA (R 1)) (sc_rA (R 2)) (sc_rA (R 3)) (sc_rA (R 4)) (sc_rA (R 5)) (sc_rA (R 6)) (sc_rA (A 0)) (sc_rA (A 1)) (sc_rA (A 2)) dY wY lY := by
  intro d
  induction d with
  | zero =>
    intro j R hj h
    have e : nI m - 1 = nI (m - 1) := pk_sub (b := 1) (by omega)
    refine br_t ?_ (nm_r e h)
    rw [e]; exact nI_le (by omega) (by omega)
  | succ d ih =>
    intro j R hj h
    have e : nI m - 1 = nI (m - 1) := pk_sub (b := 1) (by omega)
    have e1 : nI j + 1 = nI (j + 1) := nI_1 j
    have hj1 : j + 1 < 2 ^ 31 := by omega
    have a1 : vp_in (nI j + 1) 12 := pk_in (j + 1) 12 (by omega) e1
    have a0 : vp_in (nI j) 12 := pk_in j 12 (by omega)
    refine br_f (by rw [e]; exact nI_ge (by omega) (by omega)) (br_f (nI_ge (b := 11) (by omega) (by decide)) ⟨a1, a0, nm_r (sc_rA_s (R 0) hj1 rfl e1) ⟨a1, a0, nm_r (sc_rA_s (R 1) hj1 rfl e1) ⟨a1, a0, nm_r (sc_rA_s (R 2) hj1 rfl e1) ⟨a1, a0, nm_r (sc_rA_s (R 3) hj1 rfl e1) ⟨a1, a0, nm_r (sc_rA_s (R 4) hj1 rfl e1) ⟨a1, a0, nm_r (sc_rA_s (R 5) hj1 rfl e1) ⟨a1, a0, nm_r (sc_rA_s (R 6) hj1 rfl e1) (nm_r e1 ?_)⟩⟩⟩⟩⟩⟩⟩)
    exact ih (j + 1) (sc_sf R j) (by omega) h
theorem i_vc_dropRule {k : Nat} {u : SX} {v : SY} (I : i_Rel k u v) (hk : k + 5 ≤ 2561) (v1 : Int32) : wpX_dropRule (fun r u' => wpY_dropRule (fun r' v' => r' = r ∧ i_Rel (k + 5) u' v') v v1) u v1 := by
  refine sc_el (P := fun u v => wpX_dropRule (fun r u' => wpY_dropRule (fun r' v' => r' = r ∧ i_Rel (k + 5) u' v') v v1) u v1) ?_ I
  intro n m ac R A sh ho kn ex dp qu av ot pw dY wY lY g
  obtain ⟨g1, g2, g3, g4, g5, g6, g7, g8⟩ := id g
  by_cases c1 : v1 < 0
  · exact br_t c1 (br_t c1 ⟨rfl, sc_mkR g⟩)
  by_cases c2 : v1 < nI m
  rotate_left
  · exact br_f c1 (br_f c2 (br_f c1 (br_f c2 ⟨rfl, sc_mkR g⟩)))
  obtain ⟨i, hi, rfl⟩ := nI_of c1
  have c3 : i < m := (nI_ltI hi (by omega)).mp c2
  refine br_f c1 (br_t c2 (nm_r (nI_1 i) ⟨m - (i + 1) + 1, sx_dr18 g3 (m - (i + 1)) i R (by omega) ?_⟩))
  refine br_f c1 (br_t c2 ⟨m - (i + 1) + 1, sy_dr16 g3 (m - (i + 1)) i R (by omega) ?_⟩)
  exact ⟨rfl, sc_mkR (R := sc_rd (m - (i + 1)) R i) ⟨g1, g2, by omega, g4, sc_rd_ok _ _ _ g5, g6, g7, Or.inl rfl⟩⟩
end
section
/-! 14: choices, least and greatest depths, searches: plain laws -/
theorem sc_sm_sw (f : Nat → Nat → Nat) (m : Nat) : ∀ n, sc_sm (fun p => sc_sm (fun i => f p i) m) n = sc_sm (fun i => sc_sm (fun p => f p i) n) m := by
  intro n
  induction n with
  | zero => exact (sc_sm_z m (fun _ _ => rfl)).symm
  | succ n ih =>
    rw [sc_sm_s, ih, ← sc_sm_a]
    exact sc_sm_c m (fun _ _ => rfl)
section PU2
variable {R A : Nat → Nat → Nat} {n m : Nat} {δx δy : Nat → Nat}
theorem sc_pr1 {c i : Nat} (hn : n ≤ 4) (hR : sc_RO R) (hc : c < sc_lm n) : ∀ k, k ≤ n → sc_sm (fun p => sc_b (sc_tk R n c p i)) k = sc_b (sc_en R n (sc_cl n c) i false) * sc_ct (sc_pl c) (sc_hd n c) (R 0 i) k + (if sc_hd n c < k then sc_b (sc_en R n (sc_cl n c) i true) else 0) := by
  have r := hR i
  intro k
  induction k with
  | zero =>
    intro _
    rw [if_neg (by omega)]
    show 0 = _ * 0 + 0
    rw [Nat.mul_zero]
  | succ k ih =>
    intro hk
    rw [sc_sm_s, ih (by omega)]
    have e : sc_b (sc_tk R n c k i) = sc_b (sc_pl c k = R 0 i ∧ sc_en R n (sc_cl n c) i (decide (k = sc_hd n c))) :=
      sc_b_i ⟨fun h => ⟨h.1, (sc_br hn hR hc (by omega) h.1).mp h⟩, fun h => (sc_br hn hR hc (by omega) h.1).mpr h.2⟩
    rw [e]
    by_cases z : k = sc_hd n c
    · rw [decide_eq_true z, sc_ct_e z, if_neg (by omega), if_pos (by omega), Nat.add_zero]
      have e2 : sc_b (sc_pl c k = R 0 i ∧ sc_en R n (sc_cl n c) i true) = sc_b (sc_en R n (sc_cl n c) i true) := sc_b_i ⟨fun h => h.2, fun h => ⟨?_, h⟩⟩
      · rw [e2]
      · have h1 := h.1 rfl
        rw [sc_cl_H hn] at h1
        rw [← h1, z]
        unfold sc_hA
        rw [if_pos (by omega)]
    · rw [decide_eq_false z, sc_ct_n z, Nat.mul_add]
      have e3 : sc_b (sc_pl c k = R 0 i ∧ sc_en R n (sc_cl n c) i false) = sc_b (sc_en R n (sc_cl n c) i false) * sc_i (sc_pl c k) (R 0 i) := by
        rcases sc_i_c (sc_pl c k) (R 0 i) with ⟨y, e⟩ | ⟨y, e⟩
        · rw [e, Nat.mul_one]; exact sc_b_i ⟨fun h => h.2, fun h => ⟨y, h⟩⟩
        · rw [e, Nat.mul_zero]; exact sc_b_f (fun h => y h.1)
      rw [e3]
      by_cases y : sc_hd n c < k
      · rw [if_pos y, if_pos (by omega)]; omega
      · rw [if_neg y, if_neg (by omega)]; omega
theorem sc_pr {c : Nat} (hn : n ≤ 4) (hR : sc_RO R) (hc : c < sc_lm n) : sc_pY R n m c n = sc_cC R n (sc_cl n c) m := by
  unfold sc_pY sc_pI sc_cC
  rw [sc_sm_sw]
  refine sc_sm_c m (fun i _ => ?_)
  have r := hR i
  rw [sc_pr1 hn hR hc n (Nat.le_refl _), sc_cl_O hn r.1]
  show _ * sc_oW n c (R 0 i) + _ = _
  rcases sc_oS' n c with h | h
  · rw [if_pos h.2.1]; omega
  · rw [if_neg (by omega), sc_b_f (P := sc_en R n (sc_cl n c) i true) (fun z => by
      have := z.1 rfl
      rw [sc_cl_H hn] at this
      omega)]
    omega
theorem sc_cC_b {C : Nat} (hn : n ≤ 4) (hm : m ≤ 12) : sc_cC R n C m ≤ 612 := by
  unfold sc_cC
  have h := sc_sm_le (f := fun i => sc_b (sc_en R n C i true) + sc_b (sc_en R n C i false) * sc_kO n C (R 0 i)) (g := fun _ => 51) m (fun i _ => by
    show sc_b (sc_en R n C i true) + sc_b (sc_en R n C i false) * sc_kO n C (R 0 i) ≤ 51
    have h1 := sc_b_le (sc_en R n C i true)
    have h2 := sc_kO_b (C := C) (w := R 0 i) hn
    rcases sc_b_c (sc_en R n C i false) with ⟨_, e⟩ | ⟨_, e⟩
    · rw [e]; omega
    · rw [e]; omega)
  rw [sc_sm_k] at h
  omega
/-! the greatest depth -/
def sc_mx (δ : Nat → Nat) : Nat → Nat
  | 0 => 0
  | k + 1 => if δ k ≤ sc_mx δ k + 1 then sc_mx δ k else δ k - 1
theorem sc_mx_s (δ : Nat → Nat) (k : Nat) : sc_mx δ (k + 1) = if δ k ≤ sc_mx δ k + 1 then sc_mx δ k else δ k - 1 := rfl
theorem sc_mx_p (δ : Nat → Nat) : ∀ k, (∀ c, c < k → δ c ≤ sc_mx δ k + 1) ∧ (sc_mx δ k = 0 ∨ ∃ c, c < k ∧ δ c = sc_mx δ k + 1) := by
  intro k
  induction k with
  | zero => exact ⟨fun c h => by omega, Or.inl rfl⟩
  | succ k ih =>
    obtain ⟨h1, h2⟩ := ih
    rw [sc_mx_s]
    by_cases z : δ k ≤ sc_mx δ k + 1
    · rw [if_pos z]
      refine ⟨fun c hc => ?_, ?_⟩
      · by_cases y : c = k
        · rw [y]; exact z
        · exact h1 c (by omega)
      · rcases h2 with h2 | ⟨c, h3, h4⟩
        · exact Or.inl h2
        · exact Or.inr ⟨c, by omega, h4⟩
    · rw [if_neg z]
      refine ⟨fun c hc => ?_, Or.inr ⟨k, by omega, by omega⟩⟩
      by_cases y : c = k
      · rw [y]; omega
      · have := h1 c (by omega); omega
theorem sc_mx_e {K : Nat} {q : Nat → Nat} (hn : n ≤ 4) (hQ : sc_Qd n K q δx) (hd : ∀ c, c < sc_lm n → δy c = δx (sc_cl n c)) : δx (q (K - 1)) = sc_mx δy (sc_lm n) + 1 := by
  have hK := hQ.1
  obtain ⟨h1, h2⟩ := sc_mx_p δy (sc_lm n)
  have p1 := hQ.2.2.1 (K - 1) (by omega)
  obtain ⟨c0, h3, h4⟩ := p1.2.2.1
  have a := h1 c0 h3
  rw [hd c0 h3, h4] at a
  have b : sc_mx δy (sc_lm n) + 1 ≤ δx (q (K - 1)) := by
    rcases h2 with h2 | ⟨c, h5, h6⟩
    · rw [h2]; have := p1.2.1; omega
    · rw [hd c h5] at h6
      obtain ⟨j, h7, h8⟩ := sc_Qd_in hQ (sc_cl_lt (c := c) hn) (by omega)
      have := hQ.2.2.2.2 j (K - 1) (by omega) (by omega)
      rw [h8] at this
      omega
  omega
/-! the least depth of a bad one -/
def sc_Vi (P : Nat → Prop) (δ : Nat → Nat) (L : Nat) (r : Int32) : Prop :=
  (r = -1 ∧ ∀ c, c < L → δ c ≠ 0 → ¬ P c) ∨ (∃ e, r = nI e ∧ e < 2000 ∧ (∃ c, c < L ∧ δ c = e + 1 ∧ P c) ∧ ∀ c, c < L → δ c ≠ 0 → P c → e + 1 ≤ δ c)
theorem sc_vi {P : Nat → Prop} {rx ry : Int32} (hn : n ≤ 4) (hv : ∀ C, C < 300 → δx C ≠ 0 → sc_Vd n C) (hd : ∀ c, c < sc_lm n → δy c = δx (sc_cl n c)) (hx : sc_Vi P δx 300 rx) (hy : sc_Vi (fun c => P (sc_cl n c)) δy (sc_lm n) ry) : ry = rx := by
  rcases hx with ⟨x1, x2⟩ | ⟨e, x1, x2, ⟨C, x3, x4, x5⟩, x6⟩
  · rcases hy with ⟨y1, y2⟩ | ⟨e', y1, y2, ⟨c, y3, y4, y5⟩, y6⟩
    · rw [x1, y1]
    · exfalso
      refine x2 (sc_cl n c) (sc_cl_lt hn) ?_ y5
      rw [← hd c y3]; omega
  · obtain ⟨c0, z1, z2⟩ := hv C x3 (by omega)
    subst z2
    rcases hy with ⟨y1, y2⟩ | ⟨e', y1, y2, ⟨c, y3, y4, y5⟩, y6⟩
    · exfalso
      refine y2 c0 z1 ?_ x5
      rw [hd c0 z1]; omega
    · have a := x6 (sc_cl n c) (sc_cl_lt hn) (by rw [← hd c y3]; omega) y5
      have b := y6 c0 z1 (by rw [hd c0 z1]; omega) x5
      rw [← hd c y3] at a
      rw [hd c0 z1] at b
      rw [x1, y1]
      exact congrArg nI (by omega)
end PU2
/-! the first below a bound -/
noncomputable def sc_fd (P : Nat → Prop) : Nat → Nat → Int32
  | 0, _ => -1
  | d + 1, k => @ite Int32 (P k) (Classical.propDecidable (P k)) (nI k) (sc_fd P d (k + 1))
theorem sc_fd_t {P : Nat → Prop} {d k : Nat} (h : P k) : sc_fd P (d + 1) k = nI k := by
  show @ite Int32 (P k) (Classical.propDecidable (P k)) (nI k) (sc_fd P d (k + 1)) = nI k
  rw [if_pos h]
theorem sc_fd_f {P : Nat → Prop} {d k : Nat} (h : ¬ P k) : sc_fd P (d + 1) k = sc_fd P d (k + 1) := by
  show @ite Int32 (P k) (Classical.propDecidable (P k)) (nI k) (sc_fd P d (k + 1)) = sc_fd P d (k + 1)
  rw [if_neg h]
theorem sc_fd_i {P Q : Nat → Prop} {L : Nat} (h : ∀ c, c < L → (P c ↔ Q c)) : ∀ d k, k + d = L → sc_fd P d k = sc_fd Q d k := by
  intro d
  induction d with
  | zero => intro k _; rfl
  | succ d ih =>
    intro k hk
    by_cases z : P k
    · rw [sc_fd_t z, sc_fd_t ((h k (by omega)).mp z)]
    · rw [sc_fd_f z, sc_fd_f (fun y => z ((h k (by omega)).mpr y)), ih (k + 1) (by omega)]
theorem sc_dI_lt {x : Nat} (hx : x < 2 ^ 31) : sc_dI x < 0 ↔ x = 0 := by
  by_cases z : x = 0
  · rw [z]; exact ⟨fun _ => rfl, fun _ => by decide⟩
  · rw [sc_dI_n z]; exact ⟨fun y => absurd y (nI_pos (by omega)), fun y => absurd y z⟩
theorem sc_dI_ge {x : Nat} (hx : x < 2 ^ 31) : 0 ≤ sc_dI x ↔ x ≠ 0 := by
  by_cases z : x = 0
  · rw [z]; exact ⟨fun y => absurd y (by decide), fun y => absurd rfl y⟩
  · exact ⟨fun _ => z, fun _ => sc_dI_pos z hx⟩
theorem sc_dI_le {x M : Nat} (hx : x < 2 ^ 31) (hM : M < 2 ^ 31) : sc_dI x ≤ nI M ↔ x ≤ M + 1 := by
  by_cases z : x = 0
  · rw [z]
    exact ⟨fun _ => by omega, fun _ => Int32.le_trans (show (-1 : Int32) ≤ 0 by decide) (nI_pos' hM)⟩
  · rw [sc_dI_n z, nI_leI (by omega) hM]; omega
theorem sc_dI_lt' {x M : Nat} (hx : x < 2 ^ 31) (hM : M < 2 ^ 31) : sc_dI x < nI M ↔ x ≤ M := by
  by_cases z : x = 0
  · rw [z]
    refine ⟨fun _ => by omega, fun _ => ?_⟩
    rw [Int32.lt_iff_toInt_lt, nI_toInt hM]
    have : (sc_dI 0).toInt = -1 := by decide
    omega
  · rw [sc_dI_n z, nI_ltI (by omega) hM]; omega
theorem sc_dI_p (k : Nat) : nI k + (-1) = sc_dI k := by
  cases k with
  | zero => decide
  | succ k => rw [pk_m1, sc_dI_s]
theorem sc_dI_m (k : Nat) : nI k - 1 = sc_dI k := by
  cases k with
  | zero => decide
  | succ k => rw [nI_pred, sc_dI_s]
end
section
/-! 15: the component's loops over its queue -/
noncomputable def sc_wS (n : Nat) (P : Nat → Prop) (q : Nat → Nat) : Nat → Nat := sc_sm (fun j => sc_b (P (q j)) * sc_sz n (q j))
theorem sc_wS_t {n j : Nat} {P : Nat → Prop} {q : Nat → Nat} (h : P (q j)) : sc_wS n P q (j + 1) = sc_wS n P q j + sc_sz n (q j) := by
  show sc_wS n P q j + sc_b (P (q j)) * sc_sz n (q j) = _
  rw [sc_b_t h, Nat.one_mul]
theorem sc_wS_f {n j : Nat} {P : Nat → Prop} {q : Nat → Nat} (h : ¬ P (q j)) : sc_wS n P q (j + 1) = sc_wS n P q j := by
  show sc_wS n P q j + sc_b (P (q j)) * sc_sz n (q j) = _
  rw [sc_b_f h, Nat.zero_mul, Nat.add_zero]
section XQ
variable {n m ac : Nat} {R A : Nat → Nat → Nat} {sh ho kn ex : Int32} {dp qu av ot : Nat → Int32} {K : Nat} {q δ : Nat → Nat}
theorem sx_qa {j : Nat} (hX : sc_XA K q δ dp qu) (hQ : sc_Qd n K q δ) (hj : j < K) : qu (nI j).toNatClampNeg = nI (q j) := by
  have := hQ.2.1
  rw [nI_clamp (by omega)]; exact hX.2 j hj
theorem sx_rch8 {post : Int32 → SX → Prop} (h1 : 1 ≤ n) (hn : n ≤ 4) (hX : sc_XA K q δ dp qu) (hQ : sc_Qd n K q δ) (h : ∀ sh ho ot, post (nI (sc_wS n (fun _ => True) q K)) (sh, ho, (nI n), (nI m), (nI ac), (nI K), ex, (sc_rA (R 0)), (sc_rA (R 1)), (sc_rA (R 2)), (sc_rA (R 3)), (sc_rA (R 4)), (sc_rA (R 5)), (sc_rA (R 6)), (sc_rA (A 0)), (sc_rA (A 1)), (sc_rA (A 2)), dp, qu, av, ot)) :
    ∀ d j sh ho ot, j + d = K → wX_reachable_8 post (d + 1) (nI (sc_wS n (fun _ => True) q j)) (nI j) sh ho (nI n) (nI m) (nI ac) (nI K) ex (sc_rA (R 0)) (sc_rA (R 1)) (sc_rA (R 2)) (sc_rA (R 3)) (sc_rA (R 4)) (sc_rA (R 5)) (sc_rA (R 6)) (sc_rA (A 0)) (sc_rA (A 1)) (sc_rA (A 2)) dp qu av ot := by
  have hK := hQ.2.1
  intro d
  induction d with
  | zero =>
    intro j sh ho ot hj
    have e : j = K := by omega
    subst e
    exact br_t (nI_le (Nat.le_refl _) (by omega)) (h sh ho ot)
  | succ d ih =>
    intro j sh ho ot hj
    have hv := hQ.2.2.1 j (by omega)
    refine br_f (nI_ge (by omega) (by omega)) ⟨pk_in j 300 (by omega), ?_⟩
    rw [sx_qa hX hQ (by omega)]
    refine sx_size h1 hn (sc_Vd_ok hn hv.2.2.1) (fun ot' hL => nm_r (nI_add _ _) (nm_r (nI_1 j) ?_))
    have nx := ih (j + 1) (nI (sc_kS (q j))) (nI (sc_kH (q j))) ot' (by omega)
    rw [sc_wS_t trivial] at nx
    exact nx
theorem sx_lay8 {post : Int32 → SX → Prop} {x : Int32} (h1 : 1 ≤ n) (hn : n ≤ 4) (hX : sc_XA K q δ dp qu) (hQ : sc_Qd n K q δ) (h : ∀ sh ho ot, post (nI (sc_wS n (fun C => sc_dI (δ C) = x) q K)) (sh, ho, (nI n), (nI m), (nI ac), (nI K), ex, (sc_rA (R 0)), (sc_rA (R 1)), (sc_rA (R 2)), (sc_rA (R 3)), (sc_rA (R 4)), (sc_rA (R 5)), (sc_rA (R 6)), (sc_rA (A 0)), (sc_rA (A 1)), (sc_rA (A 2)), dp, qu, av, ot)) :
    ∀ d j sh ho ot, j + d = K → wX_layer_8 post x (d + 1) (nI (sc_wS n (fun C => sc_dI (δ C) = x) q j)) (nI j) sh ho (nI n) (nI m) (nI ac) (nI K) ex (sc_rA (R 0)) (sc_rA (R 1)) (sc_rA (R 2)) (sc_rA (R 3)) (sc_rA (R 4)) (sc_rA (R 5)) (sc_rA (R 6)) (sc_rA (A 0)) (sc_rA (A 1)) (sc_rA (A 2)) dp qu av ot := by
  have hK := hQ.2.1
  intro d
  induction d with
  | zero =>
    intro j sh ho ot hj
    have e : j = K := by omega
    subst e
    exact br_t (nI_le (Nat.le_refl _) (by omega)) (h sh ho ot)
  | succ d ih =>
    intro j sh ho ot hj
    have hv := hQ.2.2.1 j (by omega)
    have eq := sx_qa hX hQ (j := j) (by omega)
    have nx := fun sh ho ot' => ih (j + 1) sh ho ot' (by omega)
    refine br_f (nI_ge (by omega) (by omega)) ⟨pk_in j 300 (by omega), pk_in (q j) 300 hv.1 eq, ?_⟩
    rw [eq, nI_clamp (by omega), hX.1 _ hv.1]
    refine ⟨fun y => ⟨pk_in j 300 (by omega), ?_⟩, fun y => nm_r (nI_1 j) ?_⟩
    · rw [sc_wS_t y] at nx
      exact sx_size h1 hn (sc_Vd_ok hn hv.2.2.1) (fun ot' hL => nm_r (nI_add _ _) (nm_r (nI_1 j) (nx _ _ _)))
    · rw [sc_wS_f y] at nx
      exact nx _ _ _
theorem sx_bad8 {post : Int32 → SX → Prop} (ha : ac ≤ 4) (hA : sc_AO A) (h1 : 1 ≤ n) (hn : n ≤ 4) (hX : sc_XA K q δ dp qu) (hQ : sc_Qd n K q δ) (h : ∀ sh ho ot, post (nI (sc_wS n (sc_rg A n ac) q K)) (sh, ho, (nI n), (nI m), (nI ac), (nI K), ex, (sc_rA (R 0)), (sc_rA (R 1)), (sc_rA (R 2)), (sc_rA (R 3)), (sc_rA (R 4)), (sc_rA (R 5)), (sc_rA (R 6)), (sc_rA (A 0)), (sc_rA (A 1)), (sc_rA (A 2)), dp, qu, av, ot)) :
    ∀ d j sh ho ot, j + d = K → wX_badStates_8 post (d + 1) (nI (sc_wS n (sc_rg A n ac) q j)) (nI j) sh ho (nI n) (nI m) (nI ac) (nI K) ex (sc_rA (R 0)) (sc_rA (R 1)) (sc_rA (R 2)) (sc_rA (R 3)) (sc_rA (R 4)) (sc_rA (R 5)) (sc_rA (R 6)) (sc_rA (A 0)) (sc_rA (A 1)) (sc_rA (A 2)) dp qu av ot := by
  have hK := hQ.2.1
  intro d
  induction d with
  | zero =>
    intro j sh ho ot hj
    have e : j = K := by omega
    subst e
    exact br_t (nI_le (Nat.le_refl _) (by omega)) (h sh ho ot)
  | succ d ih =>
    intro j sh ho ot hj
    have hv := hQ.2.2.1 j (by omega)
    have hok := sc_Vd_ok hn hv.2.2.1
    have eq := sx_qa hX hQ (j := j) (by omega)
    have nx := fun sh ho ot' => ih (j + 1) sh ho ot' (by omega)
    refine br_f (nI_ge (by omega) (by omega)) ⟨pk_in j 300 (by omega), ?_⟩
    rw [eq]
    refine sx_rings ha h1 hn hA hok (fun y ot' hL => br_f (by decide) ⟨pk_in j 300 (by omega), ?_⟩) (fun y ot' hL => br_t rfl (nm_r (nI_1 j) ?_))
    · rw [sc_wS_t y] at nx
      rw [eq]
      exact sx_size h1 hn hok (fun ot' hL => nm_r (nI_add _ _) (nm_r (nI_1 j) (nx _ _ _)))
    · rw [sc_wS_f y] at nx
      exact nx _ _ _
theorem sx_stk8 {post : Int32 → SX → Prop} (hm : m ≤ 12) (hR : sc_RO R) (h1 : 1 ≤ n) (hn : n ≤ 4) (hX : sc_XA K q δ dp qu) (hQ : sc_Qd n K q δ) (h : ∀ sh ho ot, post (nI (sc_wS n (fun C => sc_cC R n C m = 0) q K)) (sh, ho, (nI n), (nI m), (nI ac), (nI K), ex, (sc_rA (R 0)), (sc_rA (R 1)), (sc_rA (R 2)), (sc_rA (R 3)), (sc_rA (R 4)), (sc_rA (R 5)), (sc_rA (R 6)), (sc_rA (A 0)), (sc_rA (A 1)), (sc_rA (A 2)), dp, qu, av, ot)) :
    ∀ d j sh ho ot, j + d = K → wX_stuckStates_8 post (d + 1) (nI (sc_wS n (fun C => sc_cC R n C m = 0) q j)) (nI j) sh ho (nI n) (nI m) (nI ac) (nI K) ex (sc_rA (R 0)) (sc_rA (R 1)) (sc_rA (R 2)) (sc_rA (R 3)) (sc_rA (R 4)) (sc_rA (R 5)) (sc_rA (R 6)) (sc_rA (A 0)) (sc_rA (A 1)) (sc_rA (A 2)) dp qu av ot := by
  have hK := hQ.2.1
  intro d
  induction d with
  | zero =>
    intro j sh ho ot hj
    have e : j = K := by omega
    subst e
    exact br_t (nI_le (Nat.le_refl _) (by omega)) (h sh ho ot)
  | succ d ih =>
    intro j sh ho ot hj
    have hv := hQ.2.2.1 j (by omega)
    have hok := sc_Vd_ok hn hv.2.2.1
    have eq := sx_qa hX hQ (j := j) (by omega)
    have nx := fun sh ho ot' => ih (j + 1) sh ho ot' (by omega)
    have hb := sc_cC_b (R := R) (C := q j) hn hm
    refine br_f (nI_ge (by omega) (by omega)) ⟨pk_in j 300 (by omega), ?_⟩
    rw [eq]
    refine sx_load h1 hn hok (fun ot' hL => ?_)
    refine sx_chH hm hn hR hok hL ?_
    refine pk_eq (sc_cC R n (q j) m) 0 (fun y => ⟨pk_in j 300 (by omega), ?_⟩) (fun y => nm_r (nI_1 j) ?_)
    · rw [sc_wS_t y] at nx
      rw [eq]
      exact sx_size h1 hn hok (fun ot' hL => nm_r (nI_add _ _) (nm_r (nI_1 j) (nx _ _ _)))
    · rw [sc_wS_f y] at nx
      exact nx _ _ _
theorem sx_vio6 {post : Int32 → SX → Prop} (ha : ac ≤ 4) (hA : sc_AO A) (h1 : 1 ≤ n) (hn : n ≤ 4) (hX : sc_XA K q δ dp qu) (hQ : sc_Qd n K q δ) (h : ∀ sh ho ot r, sc_Vi (sc_rg A n ac) δ 300 r → post r (sh, ho, (nI n), (nI m), (nI ac), (nI K), ex, (sc_rA (R 0)), (sc_rA (R 1)), (sc_rA (R 2)), (sc_rA (R 3)), (sc_rA (R 4)), (sc_rA (R 5)), (sc_rA (R 6)), (sc_rA (A 0)), (sc_rA (A 1)), (sc_rA (A 2)), dp, qu, av, ot)) :
    ∀ d j sh ho ot, j + d = K → (∀ i, i < j → ¬ sc_rg A n ac (q i)) → wX_violation_6 post (d + 1) (nI j) sh ho (nI n) (nI m) (nI ac) (nI K) ex (sc_rA (R 0)) (sc_rA (R 1)) (sc_rA (R 2)) (sc_rA (R 3)) (sc_rA (R 4)) (sc_rA (R 5)) (sc_rA (R 6)) (sc_rA (A 0)) (sc_rA (A 1)) (sc_rA (A 2)) dp qu av ot := by
  have hK := hQ.2.1
  intro d
  induction d with
  | zero =>
    intro j sh ho ot hj hno
    have e : j = K := by omega
    subst e
    refine br_t (nI_le (Nat.le_refl _) (by omega)) (h sh ho ot _ (Or.inl ⟨rfl, fun C hC hd hr => ?_⟩))
    obtain ⟨i, h2, h3⟩ := sc_Qd_in hQ hC hd
    rw [← h3] at hr
    exact hno i h2 hr
  | succ d ih =>
    intro j sh ho ot hj hno
    have hv := hQ.2.2.1 j (by omega)
    have hok := sc_Vd_ok hn hv.2.2.1
    have eq := sx_qa hX hQ (j := j) (by omega)
    refine br_f (nI_ge (by omega) (by omega)) ⟨pk_in j 300 (by omega), ?_⟩
    rw [eq]
    refine sx_rings ha h1 hn hA hok (fun y ot' hL => br_f (by decide) ⟨pk_in j 300 (by omega), pk_in (q j) 300 hv.1 eq, ?_⟩) (fun y ot' hL => br_t rfl (nm_r (nI_1 j) ?_))
    · rw [eq, nI_clamp (by omega), hX.1 _ hv.1, sc_dI_n hv.2.1]
      refine h _ _ _ _ (Or.inr ⟨δ (q j) - 1, rfl, by omega, ⟨q j, hv.1, by omega, y⟩, fun C hC hd hr => ?_⟩)
      obtain ⟨i, h2, h3⟩ := sc_Qd_in hQ hC hd
      rw [← h3] at hr ⊢
      have : ¬ i < j := fun z => hno i z hr
      have := hQ.2.2.2.2 j i (by omega) h2
      omega
    · refine ih (j + 1) _ _ _ (by omega) (fun i hi => ?_)
      by_cases z : i = j
      · rw [z]; exact y
      · exact hno i (by omega)
/-- violation as a whole -/
theorem sx_violation {post : Int32 → SX → Prop} (hm : m ≤ 12) (ha : ac ≤ 4) (h1 : 1 ≤ n) (hn : n ≤ 4) (hR : sc_RO R) (hA : sc_AO A) (he : ex = 0 ∨ (ex = 1 ∧ sc_XR R n m kn dp qu))
    (h : ∀ sh ho ot K q δ dp qu r, sc_XA K q δ dp qu → sc_Qd n K q δ → sc_Dt (sc_T R n m) 300 75 δ → sc_Vi (sc_rg A n ac) δ 300 r → post r (sh, ho, (nI n), (nI m), (nI ac), (nI K), 1, (sc_rA (R 0)), (sc_rA (R 1)), (sc_rA (R 2)), (sc_rA (R 3)), (sc_rA (R 4)), (sc_rA (R 5)), (sc_rA (R 6)), (sc_rA (A 0)), (sc_rA (A 1)), (sc_rA (A 2)), dp, qu, av, ot)) : wpX_violation post (sh, ho, (nI n), (nI m), (nI ac), kn, ex, (sc_rA (R 0)), (sc_rA (R 1)), (sc_rA (R 2)), (sc_rA (R 3)), (sc_rA (R 4)), (sc_rA (R 5)), (sc_rA (R 6)), (sc_rA (A 0)), (sc_rA (A 1)), (sc_rA (A 2)), dp, qu, av, ot) := by
  unfold wpX_violation
  dsimp only
  refine sx_explore hm h1 hn hR he (fun sh ho ot kn dp qu hXR => ?_)
  obtain ⟨K, q, δ, rfl, hX, hQ, hD⟩ := hXR
  exact ⟨K + 1, sx_vio6 ha hA h1 hn hX hQ (fun sh ho ot r hr => h sh ho ot K q δ dp qu r hX hQ hD hr) K 0 sh ho ot (by omega) (fun i hi => by omega)⟩
end XQ
end
section
/-! 16: the reference's loops over the codes -/
noncomputable def sc_cN (P : Nat → Prop) : Nat → Nat := sc_sm (fun c => sc_b (P c))
theorem sc_cN_t {k : Nat} {P : Nat → Prop} (h : P k) : sc_cN P (k + 1) = sc_cN P k + 1 := by
  show sc_cN P k + sc_b (P k) = _
  rw [sc_b_t h]
theorem sc_cN_f {k : Nat} {P : Nat → Prop} (h : ¬ P k) : sc_cN P (k + 1) = sc_cN P k := by
  show sc_cN P k + sc_b (P k) = _
  rw [sc_b_f h, Nat.add_zero]
section YQ
variable {n m ac : Nat} {R A : Nat → Nat → Nat} {pw dY wY lY : Nat → Int32} {δ : Nat → Nat}
theorem sy_badCode {post : Int32 → Prop} {x : Int32} (hn : n ≤ 4) (h1 : (∀ c, c < sc_lm n → x ≠ nI c) → post 1) (h0 : ∀ c, c < sc_lm n → x = nI c → post 0) : wpY_badCode post ((nI n), (nI (sc_lm n)), (nI m), (nI ac), pw, (sc_rA (R 0)), (sc_rA (R 1)), (sc_rA (R 2)), (sc_rA (R 3)), (sc_rA (R 4)), (sc_rA (R 5)), (sc_rA (R 6)), (sc_rA (A 0)), (sc_rA (A 1)), (sc_rA (A 2)), dY, wY, lY) x := by
  have hl := sc_lm_le hn
  rcases pk_ix x (n := sc_lm n) (by omega) with z | z | ⟨j, hj, rfl⟩
  · refine br_t z (h1 (fun c hc e => ?_))
    rw [e] at z
    exact nI_pos (by omega) z
  · have y : ¬ x < 0 := by
      rw [Int32.not_lt]
      exact Int32.le_trans (nI_pos' (by omega)) z
    refine br_f y (br_t z (h1 (fun c hc e => ?_)))
    rw [e, nI_leI (by omega) (by omega)] at z
    omega
  · exact br_f (nI_pos (by omega)) (br_f (nI_ge hj (by omega)) (br_t (nI_lt (b := 1215) (by omega) (by decide)) (h0 j hj rfl)))
theorem sy_rch8 {post : Int32 → SY → Prop} (hn : n ≤ 4) (hb : ∀ c, c < sc_lm n → δ c ≤ 2000) (hX : sc_YA n δ dY) (h : post (nI (sc_cN (fun c => δ c ≠ 0 ∧ True) (sc_lm n))) ((nI n), (nI (sc_lm n)), (nI m), (nI ac), pw, (sc_rA (R 0)), (sc_rA (R 1)), (sc_rA (R 2)), (sc_rA (R 3)), (sc_rA (R 4)), (sc_rA (R 5)), (sc_rA (R 6)), (sc_rA (A 0)), (sc_rA (A 1)), (sc_rA (A 2)), dY, wY, lY)) :
    ∀ d c, c + d = sc_lm n → wY_reachable_8 post (nI n) (nI (sc_lm n)) (nI m) (nI ac) pw (sc_rA (R 0)) (sc_rA (R 1)) (sc_rA (R 2)) (sc_rA (R 3)) (sc_rA (R 4)) (sc_rA (R 5)) (sc_rA (R 6)) (sc_rA (A 0)) (sc_rA (A 1)) (sc_rA (A 2)) dY wY lY (d + 1) (nI (sc_cN (fun c => δ c ≠ 0 ∧ True) c)) (nI c) := by
  have hl := sc_lm_le hn
  intro d
  induction d with
  | zero =>
    intro c hc
    have e : c = sc_lm n := by omega
    subst e
    exact br_t (nI_le (Nat.le_refl _) (by omega)) h
  | succ d ih =>
    intro c hc
    have hbc := hb c (by omega)
    have nx := ih (c + 1) (by omega)
    refine br_f (nI_ge (by omega) (by omega)) (br_f (nI_ge (b := 1215) (by omega) (by decide)) ⟨pk_in c 1215 (by omega), ?_⟩)
    rw [nI_clamp (by omega), hX c (by omega), sc_dI_lt (by omega)]
    refine ⟨fun y => nm_r (nI_1 c) ?_, fun y => nm_r (nI_1 _) (nm_r (nI_1 c) ?_)⟩
    · rw [sc_cN_f (fun z => z.1 y)] at nx; exact nx
    · rw [sc_cN_t ⟨y, trivial⟩] at nx; exact nx
theorem sy_lay14 {post : Int32 → SY → Prop} {x : Int32} (hn : n ≤ 4) (hX : sc_YA n δ dY) (h : post (nI (sc_cN (fun c => sc_dI (δ c) = x) (sc_lm n))) ((nI n), (nI (sc_lm n)), (nI m), (nI ac), pw, (sc_rA (R 0)), (sc_rA (R 1)), (sc_rA (R 2)), (sc_rA (R 3)), (sc_rA (R 4)), (sc_rA (R 5)), (sc_rA (R 6)), (sc_rA (A 0)), (sc_rA (A 1)), (sc_rA (A 2)), dY, wY, lY)) :
    ∀ d c, c + d = sc_lm n → wY_layer_14 post x (nI n) (nI (sc_lm n)) (nI m) (nI ac) pw (sc_rA (R 0)) (sc_rA (R 1)) (sc_rA (R 2)) (sc_rA (R 3)) (sc_rA (R 4)) (sc_rA (R 5)) (sc_rA (R 6)) (sc_rA (A 0)) (sc_rA (A 1)) (sc_rA (A 2)) dY wY lY (d + 1) (nI (sc_cN (fun c => sc_dI (δ c) = x) c)) (nI c) := by
  have hl := sc_lm_le hn
  intro d
  induction d with
  | zero =>
    intro c hc
    have e : c = sc_lm n := by omega
    subst e
    exact br_t (nI_le (Nat.le_refl _) (by omega)) h
  | succ d ih =>
    intro c hc
    have nx := ih (c + 1) (by omega)
    refine br_f (nI_ge (by omega) (by omega)) (br_f (nI_ge (b := 1215) (by omega) (by decide)) ⟨pk_in c 1215 (by omega), ?_⟩)
    rw [nI_clamp (by omega), hX c (by omega)]
    refine ⟨fun y => nm_r (nI_1 _) (nm_r (nI_1 c) ?_), fun y => nm_r (nI_1 c) ?_⟩
    · rw [sc_cN_t y] at nx; exact nx
    · rw [sc_cN_f y] at nx; exact nx
theorem sy_bad8 {post : Int32 → SY → Prop} (ha : ac ≤ 4) (hA : sc_AO A) (hP : sc_PW pw) (hn : n ≤ 4) (hb : ∀ c, c < sc_lm n → δ c ≤ 2000) (hX : sc_YA n δ dY) (h : post (nI (sc_cN (fun c => δ c ≠ 0 ∧ sc_rg A n ac (sc_cl n c)) (sc_lm n))) ((nI n), (nI (sc_lm n)), (nI m), (nI ac), pw, (sc_rA (R 0)), (sc_rA (R 1)), (sc_rA (R 2)), (sc_rA (R 3)), (sc_rA (R 4)), (sc_rA (R 5)), (sc_rA (R 6)), (sc_rA (A 0)), (sc_rA (A 1)), (sc_rA (A 2)), dY, wY, lY)) :
    ∀ d c, c + d = sc_lm n → wY_badStates_8 post (nI n) (nI (sc_lm n)) (nI m) (nI ac) pw (sc_rA (R 0)) (sc_rA (R 1)) (sc_rA (R 2)) (sc_rA (R 3)) (sc_rA (R 4)) (sc_rA (R 5)) (sc_rA (R 6)) (sc_rA (A 0)) (sc_rA (A 1)) (sc_rA (A 2)) dY wY lY (d + 1) (nI (sc_cN (fun c => δ c ≠ 0 ∧ sc_rg A n ac (sc_cl n c)) c)) (nI c) := by
  have hl := sc_lm_le hn
  intro d
  induction d with
  | zero =>
    intro c hc
    have e : c = sc_lm n := by omega
    subst e
    exact br_t (nI_le (Nat.le_refl _) (by omega)) h
  | succ d ih =>
    intro c hc
    have hbc := hb c (by omega)
    have nx := ih (c + 1) (by omega)
    refine br_f (nI_ge (by omega) (by omega)) (br_f (nI_ge (b := 1215) (by omega) (by decide)) ⟨pk_in c 1215 (by omega), ?_⟩)
    rw [nI_clamp (by omega), hX c (by omega), sc_dI_lt (by omega)]
    refine ⟨fun y => nm_r (nI_1 c) ?_, fun y => ?_⟩
    · rw [sc_cN_f (fun z => z.1 y)] at nx; exact nx
    · refine sy_bad ha hP hn hA (by omega) (fun z => br_f (by decide) (nm_r (nI_1 _) (nm_r (nI_1 c) ?_))) (fun z => br_t rfl (nm_r (nI_1 c) ?_))
      · rw [sc_cN_t ⟨y, z⟩] at nx; exact nx
      · rw [sc_cN_f (fun w => z w.2)] at nx; exact nx
theorem sy_stk8 {post : Int32 → SY → Prop} (hm : m ≤ 12) (hR : sc_RO R) (hP : sc_PW pw) (hn : n ≤ 4) (hb : ∀ c, c < sc_lm n → δ c ≤ 2000) (hX : sc_YA n δ dY) (h : post (nI (sc_cN (fun c => δ c ≠ 0 ∧ sc_cC R n (sc_cl n c) m = 0) (sc_lm n))) ((nI n), (nI (sc_lm n)), (nI m), (nI ac), pw, (sc_rA (R 0)), (sc_rA (R 1)), (sc_rA (R 2)), (sc_rA (R 3)), (sc_rA (R 4)), (sc_rA (R 5)), (sc_rA (R 6)), (sc_rA (A 0)), (sc_rA (A 1)), (sc_rA (A 2)), dY, wY, lY)) :
    ∀ d c, c + d = sc_lm n → wY_stuckStates_8 post (nI n) (nI (sc_lm n)) (nI m) (nI ac) pw (sc_rA (R 0)) (sc_rA (R 1)) (sc_rA (R 2)) (sc_rA (R 3)) (sc_rA (R 4)) (sc_rA (R 5)) (sc_rA (R 6)) (sc_rA (A 0)) (sc_rA (A 1)) (sc_rA (A 2)) dY wY lY (d + 1) (nI (sc_cN (fun c => δ c ≠ 0 ∧ sc_cC R n (sc_cl n c) m = 0) c)) (nI c) := by
  have hl := sc_lm_le hn
  intro d
  induction d with
  | zero =>
    intro c hc
    have e : c = sc_lm n := by omega
    subst e
    exact br_t (nI_le (Nat.le_refl _) (by omega)) h
  | succ d ih =>
    intro c hc
    have hbc := hb c (by omega)
    have nx := ih (c + 1) (by omega)
    have hb2 := sc_cC_b (R := R) (C := sc_cl n c) hn hm
    refine br_f (nI_ge (by omega) (by omega)) (br_f (nI_ge (b := 1215) (by omega) (by decide)) ⟨pk_in c 1215 (by omega), ?_⟩)
    rw [nI_clamp (by omega), hX c (by omega), sc_dI_lt (by omega)]
    refine ⟨fun y => nm_r (nI_1 c) ?_, fun y => ?_⟩
    · rw [sc_cN_f (fun z => z.1 y)] at nx; exact nx
    · refine sy_pairs hm hP hn hR (by omega) ?_
      rw [sc_pr hn hR (by omega)]
      refine pk_eq (sc_cC R n (sc_cl n c) m) 0 (fun z => nm_r (nI_1 _) (nm_r (nI_1 c) ?_)) (fun z => nm_r (nI_1 c) ?_)
      · rw [sc_cN_t ⟨y, z⟩] at nx; exact nx
      · rw [sc_cN_f (fun w => z w.2)] at nx; exact nx
theorem sy_rad8 {post : Int32 → SY → Prop} (hn : n ≤ 4) (hb : ∀ c, c < sc_lm n → δ c ≤ 2000) (hX : sc_YA n δ dY) (h : post (nI (sc_mx δ (sc_lm n))) ((nI n), (nI (sc_lm n)), (nI m), (nI ac), pw, (sc_rA (R 0)), (sc_rA (R 1)), (sc_rA (R 2)), (sc_rA (R 3)), (sc_rA (R 4)), (sc_rA (R 5)), (sc_rA (R 6)), (sc_rA (A 0)), (sc_rA (A 1)), (sc_rA (A 2)), dY, wY, lY)) :
    ∀ d c, c + d = sc_lm n → sc_mx δ c ≤ 2000 → wY_radius_8 post (nI n) (nI (sc_lm n)) (nI m) (nI ac) pw (sc_rA (R 0)) (sc_rA (R 1)) (sc_rA (R 2)) (sc_rA (R 3)) (sc_rA (R 4)) (sc_rA (R 5)) (sc_rA (R 6)) (sc_rA (A 0)) (sc_rA (A 1)) (sc_rA (A 2)) dY wY lY (d + 1) (nI (sc_mx δ c)) (nI c) := by
  have hl := sc_lm_le hn
  intro d
  induction d with
  | zero =>
    intro c hc _
    have e : c = sc_lm n := by omega
    subst e
    exact br_t (nI_le (Nat.le_refl _) (by omega)) h
  | succ d ih =>
    intro c hc hM
    have hbc := hb c (by omega)
    have nx := ih (c + 1) (by omega)
    rw [sc_mx_s] at nx
    have ex : dY (nI c).toNatClampNeg = sc_dI (δ c) := by rw [nI_clamp (by omega)]; exact hX c (by omega)
    refine br_f (nI_ge (by omega) (by omega)) (br_f (nI_ge (b := 1215) (by omega) (by decide)) ⟨pk_in c 1215 (by omega), ?_⟩)
    rw [ex, sc_dI_le (by omega) (by omega)]
    refine ⟨fun y => nm_r (nI_1 c) ?_, fun y => ⟨pk_in c 1215 (by omega), nm_r (sc_dI_n (by omega)) (nm_r (nI_1 c) ?_)⟩⟩
    · rw [if_pos y] at nx; exact nx hM
    · rw [if_neg y] at nx; exact nx (by omega)
theorem sy_vio8 {post : Int32 → SY → Prop} (ha : ac ≤ 4) (hA : sc_AO A) (hP : sc_PW pw) (hn : n ≤ 4) (hb : ∀ c, c < sc_lm n → δ c ≤ 2000) (hX : sc_YA n δ dY) (h : ∀ r, sc_Vi (fun c => sc_rg A n ac (sc_cl n c)) δ (sc_lm n) r → post r ((nI n), (nI (sc_lm n)), (nI m), (nI ac), pw, (sc_rA (R 0)), (sc_rA (R 1)), (sc_rA (R 2)), (sc_rA (R 3)), (sc_rA (R 4)), (sc_rA (R 5)), (sc_rA (R 6)), (sc_rA (A 0)), (sc_rA (A 1)), (sc_rA (A 2)), dY, wY, lY)) :
    ∀ d c x, c + d = sc_lm n → sc_Vi (fun c => sc_rg A n ac (sc_cl n c)) δ c x → wY_violation_8 post (nI n) (nI (sc_lm n)) (nI m) (nI ac) pw (sc_rA (R 0)) (sc_rA (R 1)) (sc_rA (R 2)) (sc_rA (R 3)) (sc_rA (R 4)) (sc_rA (R 5)) (sc_rA (R 6)) (sc_rA (A 0)) (sc_rA (A 1)) (sc_rA (A 2)) dY wY lY (d + 1) x (nI c) := by
  have hl := sc_lm_le hn
  intro d
  induction d with
  | zero =>
    intro c x hc hV
    have e : c = sc_lm n := by omega
    subst e
    exact br_t (nI_le (Nat.le_refl _) (by omega)) (h x hV)
  | succ d ih =>
    intro c x hc hV
    have hbc := hb c (by omega)
    have i12 : vp_in (nI c) 1215 := pk_in c 1215 (by omega)
    have ex : dY (nI c).toNatClampNeg = sc_dI (δ c) := by rw [nI_clamp (by omega)]; exact hX c (by omega)
    have skip : (δ c ≠ 0 → sc_rg A n ac (sc_cl n c) → ∃ e, x = nI e ∧ e + 1 ≤ δ c) → sc_Vi (fun c => sc_rg A n ac (sc_cl n c)) δ (c + 1) x := by
      intro hs
      rcases hV with ⟨v1, v2⟩ | ⟨e, v1, v2, ⟨c1, v3, v4, v5⟩, v6⟩
      · refine Or.inl ⟨v1, fun c' hc' hd hr => ?_⟩
        by_cases z : c' = c
        · rw [z] at hd hr
          obtain ⟨e, e1, _⟩ := hs hd hr
          rw [v1] at e1
          have e2 : e < 2 ^ 31 ∨ 2 ^ 31 ≤ e := by omega
          rcases e2 with e2 | e2
          · exact sc_m1n e2 e1
          · omega
        · exact v2 c' (by omega) hd hr
      · refine Or.inr ⟨e, v1, v2, ⟨c1, by omega, v4, v5⟩, fun c' hc' hd hr => ?_⟩
        by_cases z : c' = c
        · rw [z] at hd hr ⊢
          obtain ⟨e', e1, e2⟩ := hs hd hr
          rw [v1] at e1
          have e3 : e = e' := (nI_eq (by omega) (by omega)).mp e1
          omega
        · exact v6 c' (by omega) hd hr
    have take : δ c ≠ 0 → sc_rg A n ac (sc_cl n c) → (∀ c', c' < c → δ c' ≠ 0 → sc_rg A n ac (sc_cl n c') → δ c ≤ δ c') → sc_Vi (fun c => sc_rg A n ac (sc_cl n c)) δ (c + 1) (nI (δ c - 1)) := by
      intro hd hr hm
      refine Or.inr ⟨δ c - 1, rfl, by omega, ⟨c, by omega, by omega, hr⟩, fun c' hc' hd' hr' => ?_⟩
      by_cases z : c' = c
      · rw [z]; omega
      · have := hm c' (by omega) hd' hr'; omega
    refine br_f (nI_ge (by omega) (by omega)) (br_f (nI_ge (b := 1215) (by omega) (by decide)) ⟨i12, ?_⟩)
    rw [ex, sc_dI_lt (by omega)]
    refine ⟨fun y => nm_r (nI_1 c) (ih (c + 1) x (by omega) (skip (fun z => absurd y z))), fun y => ?_⟩
    refine sy_bad ha hP hn hA (by omega) (fun z => br_f (by decide) ?_) (fun z => br_t rfl (nm_r (nI_1 c) (ih (c + 1) x (by omega) (skip (fun _ w => absurd w z)))))
    rcases id hV with ⟨v1, v2⟩ | ⟨e, v1, v2, ⟨c1, v3, v4, v5⟩, v6⟩
    · refine br_t (by rw [v1]; decide) ⟨i12, nm_r (sc_dI_n y) (nm_r (nI_1 c) (ih (c + 1) _ (by omega) (take y z (fun c' hc' hd hr => absurd hr (v2 c' hc' hd)))))⟩
    · refine br_f (by rw [v1]; exact nI_pos (by omega)) ⟨i12, ?_⟩
      rw [v1, sc_dI_n y]
      refine pk_le e (δ c - 1) (fun w => nm_r (nI_1 c) ?_) (fun w => ⟨i12, nm_e (nm_r (nI_1 c) (ih (c + 1) _ (by omega) (take y z (fun c' hc' hd hr => ?_))))⟩)
      · have := ih (c + 1) x (by omega) (skip (fun _ _ => ⟨e, v1, by omega⟩))
        rw [v1] at this
        exact this
      · have := v6 c' hc' hd hr; omega
theorem sy_violation {post : Int32 → SY → Prop} (hm : m ≤ 12) (ha : ac ≤ 4) (hP : sc_PW pw) (hn : n ≤ 4) (hR : sc_RO R) (hA : sc_AO A)
    (h : ∀ dY δ r, sc_YA n δ dY → sc_Dt (sc_S R n m) (sc_lm n) (sc_st n) δ → (∀ c, c < sc_lm n → δ c ≤ 2000) → sc_Vi (fun c => sc_rg A n ac (sc_cl n c)) δ (sc_lm n) r → post r ((nI n), (nI (sc_lm n)), (nI m), (nI ac), pw, (sc_rA (R 0)), (sc_rA (R 1)), (sc_rA (R 2)), (sc_rA (R 3)), (sc_rA (R 4)), (sc_rA (R 5)), (sc_rA (R 6)), (sc_rA (A 0)), (sc_rA (A 1)), (sc_rA (A 2)), dY, wY, lY)) : wpY_violation post ((nI n), (nI (sc_lm n)), (nI m), (nI ac), pw, (sc_rA (R 0)), (sc_rA (R 1)), (sc_rA (R 2)), (sc_rA (R 3)), (sc_rA (R 4)), (sc_rA (R 5)), (sc_rA (R 6)), (sc_rA (A 0)), (sc_rA (A 1)), (sc_rA (A 2)), dY, wY, lY) := by
  unfold wpY_violation
  dsimp only
  refine sy_explore hm hP hn hR (fun dY hYR => ?_)
  obtain ⟨δ, hX, hD, hb⟩ := hYR
  exact ⟨sc_lm n + 1, sy_vio8 ha hA hP hn hb hX (fun r hr => h dY δ r hX hD hb hr) (sc_lm n) 0 (-1) (by omega) (Or.inl ⟨rfl, fun c hc => by omega⟩)⟩
end YQ
end
section
/-! 17: the owed rows for the questions that explore once -/
theorem sc_G_ex {n m ac K : Nat} {R A : Nat → Nat → Nat} {kn ex : Int32} {dp qu pw dp' qu' : Nat → Int32} {q δ : Nat → Nat} (g : sc_G n m ac R A kn ex dp qu pw) (hX : sc_XA K q δ dp' qu') (hQ : sc_Qd n K q δ) (hD : sc_Dt (sc_T R n m) 300 75 δ) : sc_G n m ac R A (nI K) 1 dp' qu' pw :=
  ⟨g.1, g.2.1, g.2.2.1, g.2.2.2.1, g.2.2.2.2.1, g.2.2.2.2.2.1, g.2.2.2.2.2.2.1, Or.inr ⟨rfl, K, q, δ, rfl, hX, hQ, hD⟩⟩
theorem i_vc_reachable {k : Nat} {u : SX} {v : SY} (I : i_Rel k u v) (hk : k + 5 ≤ 2561) : wpX_reachable (fun r u' => wpY_reachable (fun r' v' => r' = r ∧ i_Rel (k + 5) u' v') v) u := by
  refine sc_el (P := fun u v => wpX_reachable (fun r u' => wpY_reachable (fun r' v' => r' = r ∧ i_Rel (k + 5) u' v') v) u) ?_ I
  intro n m ac R A sh ho kn ex dp qu av ot pw dY wY lY g
  obtain ⟨g1, g2, g3, g4, g5, g6, g7, g8⟩ := id g
  unfold wpX_reachable
  dsimp only
  refine sx_explore g3 g1 g2 g5 g8 (fun sh ho ot kn dp qu hXR => ?_)
  obtain ⟨K, q, δx, rfl, hX, hQ, hDx⟩ := hXR
  refine ⟨K + 1, sx_rch8 g1 g2 hX hQ (fun sh ho ot => ?_) K 0 sh ho ot (by omega)⟩
  unfold wpY_reachable
  dsimp only
  refine sy_explore g3 g7 g2 g5 (fun dY hYR => ?_)
  obtain ⟨δy, hY, hDy, hb⟩ := hYR
  refine ⟨sc_lm n + 1, sy_rch8 g2 hb hY ?_ (sc_lm n) 0 (by omega)⟩
  exact ⟨congrArg nI (sc_tot g1 g2 hQ (fun c hc => sc_un g2 g5 hDy hDx (sc_Qd_v hQ) hc) (fun _ => True)).symm, sc_mkR (sc_G_ex g hX hQ hDx)⟩
theorem i_vc_layer {k : Nat} {u : SX} {v : SY} (I : i_Rel k u v) (hk : k + 5 ≤ 2561) (v1 : Int32) : wpX_layer (fun r u' => wpY_layer (fun r' v' => r' = r ∧ i_Rel (k + 5) u' v') v v1) u v1 := by
  refine sc_el (P := fun u v => wpX_layer (fun r u' => wpY_layer (fun r' v' => r' = r ∧ i_Rel (k + 5) u' v') v v1) u v1) ?_ I
  intro n m ac R A sh ho kn ex dp qu av ot pw dY wY lY g
  obtain ⟨g1, g2, g3, g4, g5, g6, g7, g8⟩ := id g
  unfold wpX_layer
  dsimp only
  refine sx_explore g3 g1 g2 g5 g8 (fun sh ho ot kn dp qu hXR => ?_)
  obtain ⟨K, q, δx, rfl, hX, hQ, hDx⟩ := hXR
  refine ⟨K + 1, sx_lay8 g1 g2 hX hQ (fun sh ho ot => ?_) K 0 sh ho ot (by omega)⟩
  by_cases z : 0 ≤ v1
  · refine br_t z ?_
    refine sy_explore g3 g7 g2 g5 (fun dY hYR => ?_)
    obtain ⟨δy, hY, hDy, hb⟩ := hYR
    have hd : ∀ c, c < sc_lm n → δy c = δx (sc_cl n c) := fun c hc => sc_un g2 g5 hDy hDx (sc_Qd_v hQ) hc
    refine ⟨sc_lm n + 1, sy_lay14 g2 hY ?_ (sc_lm n) 0 (by omega)⟩
    refine ⟨congrArg nI (Eq.trans ?_ (sc_tot g1 g2 hQ hd (fun C => sc_dI (δx C) = v1)).symm), sc_mkR (sc_G_ex g hX hQ hDx)⟩
    refine sc_sm_c _ (fun c hc => sc_b_i ⟨fun y => ⟨fun x => ?_, ?_⟩, fun y => ?_⟩)
    · have y' : sc_dI (δy c) = v1 := y
      rw [x] at y'
      rw [← y'] at z
      exact absurd z (by decide)
    · rw [← hd c hc]; exact y
    · show sc_dI (δy c) = v1
      rw [hd c hc]; exact y.2
  · refine br_f z ⟨?_, sc_mkR (sc_G_ex g hX hQ hDx)⟩
    have e : sc_wS n (fun C => sc_dI (δx C) = v1) q K = 0 := by
      refine sc_sm_z K (fun j hj => ?_)
      have hv := hQ.2.2.1 j hj
      have hK := hQ.2.1
      show sc_b (sc_dI (δx (q j)) = v1) * sc_sz n (q j) = 0
      rw [sc_b_f (fun y => z (by rw [← y]; exact sc_dI_pos hv.2.1 (by omega))), Nat.zero_mul]
    rw [e]; rfl
theorem i_vc_badStates {k : Nat} {u : SX} {v : SY} (I : i_Rel k u v) (hk : k + 5 ≤ 2561) : wpX_badStates (fun r u' => wpY_badStates (fun r' v' => r' = r ∧ i_Rel (k + 5) u' v') v) u := by
  refine sc_el (P := fun u v => wpX_badStates (fun r u' => wpY_badStates (fun r' v' => r' = r ∧ i_Rel (k + 5) u' v') v) u) ?_ I
  intro n m ac R A sh ho kn ex dp qu av ot pw dY wY lY g
  obtain ⟨g1, g2, g3, g4, g5, g6, g7, g8⟩ := id g
  unfold wpX_badStates
  dsimp only
  refine sx_explore g3 g1 g2 g5 g8 (fun sh ho ot kn dp qu hXR => ?_)
  obtain ⟨K, q, δx, rfl, hX, hQ, hDx⟩ := hXR
  refine ⟨K + 1, sx_bad8 g4 g6 g1 g2 hX hQ (fun sh ho ot => ?_) K 0 sh ho ot (by omega)⟩
  unfold wpY_badStates
  dsimp only
  refine sy_explore g3 g7 g2 g5 (fun dY hYR => ?_)
  obtain ⟨δy, hY, hDy, hb⟩ := hYR
  refine ⟨sc_lm n + 1, sy_bad8 g4 g6 g7 g2 hb hY ?_ (sc_lm n) 0 (by omega)⟩
  exact ⟨congrArg nI (sc_tot g1 g2 hQ (fun c hc => sc_un g2 g5 hDy hDx (sc_Qd_v hQ) hc) (sc_rg A n ac)).symm, sc_mkR (sc_G_ex g hX hQ hDx)⟩
theorem i_vc_stuckStates {k : Nat} {u : SX} {v : SY} (I : i_Rel k u v) (hk : k + 5 ≤ 2561) : wpX_stuckStates (fun r u' => wpY_stuckStates (fun r' v' => r' = r ∧ i_Rel (k + 5) u' v') v) u := by
  refine sc_el (P := fun u v => wpX_stuckStates (fun r u' => wpY_stuckStates (fun r' v' => r' = r ∧ i_Rel (k + 5) u' v') v) u) ?_ I
  intro n m ac R A sh ho kn ex dp qu av ot pw dY wY lY g
  obtain ⟨g1, g2, g3, g4, g5, g6, g7, g8⟩ := id g
  unfold wpX_stuckStates
  dsimp only
  refine sx_explore g3 g1 g2 g5 g8 (fun sh ho ot kn dp qu hXR => ?_)
  obtain ⟨K, q, δx, rfl, hX, hQ, hDx⟩ := hXR
  refine ⟨K + 1, sx_stk8 g3 g5 g1 g2 hX hQ (fun sh ho ot => ?_) K 0 sh ho ot (by omega)⟩
  unfold wpY_stuckStates
  dsimp only
  refine sy_explore g3 g7 g2 g5 (fun dY hYR => ?_)
  obtain ⟨δy, hY, hDy, hb⟩ := hYR
  refine ⟨sc_lm n + 1, sy_stk8 g3 g5 g7 g2 hb hY ?_ (sc_lm n) 0 (by omega)⟩
  exact ⟨congrArg nI (sc_tot g1 g2 hQ (fun c hc => sc_un g2 g5 hDy hDx (sc_Qd_v hQ) hc) (fun C => sc_cC R n C m = 0)).symm, sc_mkR (sc_G_ex g hX hQ hDx)⟩
theorem i_vc_depth {k : Nat} {u : SX} {v : SY} (I : i_Rel k u v) (hk : k + 5 ≤ 2561) (v1 : Int32) : wpX_depth (fun r u' => wpY_depth (fun r' v' => r' = r ∧ i_Rel (k + 5) u' v') v v1) u v1 := by
  refine sc_el (P := fun u v => wpX_depth (fun r u' => wpY_depth (fun r' v' => r' = r ∧ i_Rel (k + 5) u' v') v v1) u v1) ?_ I
  intro n m ac R A sh ho kn ex dp qu av ot pw dY wY lY g
  obtain ⟨g1, g2, g3, g4, g5, g6, g7, g8⟩ := id g
  have hl := sc_lm_le g2
  unfold wpX_depth
  dsimp only
  refine sx_isCode g2 (fun no => br_t rfl ?_) (fun c hc e => br_f (by decide) ?_)
  · unfold wpY_depth
    dsimp only
    refine sy_badCode g2 (fun _ => br_f (by decide) ⟨rfl, sc_mkR g⟩) (fun c hc e => absurd e (no c hc))
  · subst e
    refine sx_explore g3 g1 g2 g5 g8 (fun sh ho ot kn dp qu hXR => ?_)
    dsimp only
    obtain ⟨K, q, δx, rfl, hX, hQ, hDx⟩ := hXR
    refine sx_classOf g2 hc (fun ot' hL => ?_)
    dsimp only
    refine ⟨pk_in (sc_cl n c) 300 (sc_cl_lt g2), ?_⟩
    have hcl := sc_cl_lt (c := c) g2
    have ey : ∀ r, r = (if δx (sc_cl n c) = 0 then (-2 : Int32) else sc_dI (δx (sc_cl n c))) → wpY_depth (fun r' v' => r' = r ∧ i_Rel (k + 5) ((nI (sc_kS (sc_cl n c))), (nI (sc_kH (sc_cl n c))), (nI n), (nI m), (nI ac), (nI K), 1, (sc_rA (R 0)), (sc_rA (R 1)), (sc_rA (R 2)), (sc_rA (R 3)), (sc_rA (R 4)), (sc_rA (R 5)), (sc_rA (R 6)), (sc_rA (A 0)), (sc_rA (A 1)), (sc_rA (A 2)), dp, qu, av, ot') v') ((nI n), (nI (sc_lm n)), (nI m), (nI ac), pw, (sc_rA (R 0)), (sc_rA (R 1)), (sc_rA (R 2)), (sc_rA (R 3)), (sc_rA (R 4)), (sc_rA (R 5)), (sc_rA (R 6)), (sc_rA (A 0)), (sc_rA (A 1)), (sc_rA (A 2)), dY, wY, lY) (nI c) := by
      intro r hr
      unfold wpY_depth
      dsimp only
      refine sy_badCode g2 (fun no => absurd rfl (no c hc)) (fun c' hc' _ => br_t rfl ?_)
      refine sy_explore g3 g7 g2 g5 (fun dY hYR => ?_)
      dsimp only
      obtain ⟨δy, hY, hDy, hb⟩ := hYR
      have hbc := hb c hc
      have hd := sc_un g2 g5 hDy hDx (sc_Qd_v hQ) hc
      refine ⟨pk_in c 1215 (by omega), ?_⟩
      rw [nI_clamp (by omega), hY c hc, sc_dI_ge (by omega)]
      refine ⟨fun y => ⟨pk_in c 1215 (by omega), ?_, sc_mkR (sc_G_ex g hX hQ hDx)⟩, fun y => ⟨?_, sc_mkR (sc_G_ex g hX hQ hDx)⟩⟩
      · rw [hr, ← hd, if_neg y]
      · rw [hr, ← hd, if_pos (Classical.not_not.mp y)]
    have hbx : δx (sc_cl n c) ≤ 300 := by
      by_cases z : δx (sc_cl n c) = 0
      · omega
      · obtain ⟨j, h7, h8⟩ := sc_Qd_in hQ hcl z
        have := (hQ.2.2.1 j h7).2.2.2
        have := hQ.2.1
        rw [h8] at *
        omega
    rw [nI_clamp (by omega), hX.1 _ hcl, sc_dI_ge (by omega)]
    refine ⟨fun y => ⟨pk_in (sc_cl n c) 300 hcl, ey _ ?_⟩, fun y => ey _ ?_⟩
    · rw [if_neg y]
    · rw [if_pos (Classical.not_not.mp y)]
theorem i_vc_radius {k : Nat} {u : SX} {v : SY} (I : i_Rel k u v) (hk : k + 5 ≤ 2561) : wpX_radius (fun r u' => wpY_radius (fun r' v' => r' = r ∧ i_Rel (k + 5) u' v') v) u := by
  refine sc_el (P := fun u v => wpX_radius (fun r u' => wpY_radius (fun r' v' => r' = r ∧ i_Rel (k + 5) u' v') v) u) ?_ I
  intro n m ac R A sh ho kn ex dp qu av ot pw dY wY lY g
  obtain ⟨g1, g2, g3, g4, g5, g6, g7, g8⟩ := id g
  unfold wpX_radius
  dsimp only
  refine sx_explore g3 g1 g2 g5 g8 (fun sh ho ot kn dp qu hXR => ?_)
  dsimp only
  obtain ⟨K, q, δx, rfl, hX, hQ, hDx⟩ := hXR
  have hK := hQ.1
  have hK3 := hQ.2.1
  have eK : nI K - 1 = nI (K - 1) := pk_sub (b := 1) hK
  have hv := hQ.2.2.1 (K - 1) (by omega)
  have eq : qu (nI K - 1).toNatClampNeg = nI (q (K - 1)) := by rw [eK]; exact sx_qa hX hQ (by omega)
  refine ⟨pk_in (K - 1) 300 (by omega) eK, pk_in (q (K - 1)) 300 hv.1 eq, ?_⟩
  rw [eq, nI_clamp (by omega), hX.1 _ hv.1]
  unfold wpY_radius
  dsimp only
  refine sy_explore g3 g7 g2 g5 (fun dY hYR => ?_)
  obtain ⟨δy, hY, hDy, hb⟩ := hYR
  refine ⟨sc_lm n + 1, sy_rad8 g2 hb hY ?_ (sc_lm n) 0 (by omega) (Nat.zero_le _)⟩
  refine ⟨?_, sc_mkR (sc_G_ex g hX hQ hDx)⟩
  rw [sc_mx_e g2 hQ (fun c hc => sc_un g2 g5 hDy hDx (sc_Qd_v hQ) hc), sc_dI_s]
theorem i_vc_violation {k : Nat} {u : SX} {v : SY} (I : i_Rel k u v) (hk : k + 5 ≤ 2561) : wpX_violation (fun r u' => wpY_violation (fun r' v' => r' = r ∧ i_Rel (k + 5) u' v') v) u := by
  refine sc_el (P := fun u v => wpX_violation (fun r u' => wpY_violation (fun r' v' => r' = r ∧ i_Rel (k + 5) u' v') v) u) ?_ I
  intro n m ac R A sh ho kn ex dp qu av ot pw dY wY lY g
  obtain ⟨g1, g2, g3, g4, g5, g6, g7, g8⟩ := id g
  refine sx_violation g3 g4 g1 g2 g5 g6 g8 (fun sh ho ot K q δx dp qu r hX hQ hDx hr => ?_)
  refine sy_violation g3 g4 g7 g2 g5 g6 (fun dY δy r' hY hDy hb hr' => ?_)
  exact ⟨sc_vi g2 (sc_Qd_v hQ) (fun c hc => sc_un g2 g5 hDy hDx (sc_Qd_v hQ) hc) hr hr', sc_mkR (sc_G_ex g hX hQ hDx)⟩
theorem i_vc_choices {k : Nat} {u : SX} {v : SY} (I : i_Rel k u v) (hk : k + 5 ≤ 2561) (v1 : Int32) : wpX_choices (fun r u' => wpY_choices (fun r' => r' = r ∧ i_Rel (k + 5) u' v) v v1) u v1 := by
  refine sc_el (P := fun u v => wpX_choices (fun r u' => wpY_choices (fun r' => r' = r ∧ i_Rel (k + 5) u' v) v v1) u v1) ?_ I
  intro n m ac R A sh ho kn ex dp qu av ot pw dY wY lY g
  obtain ⟨g1, g2, g3, g4, g5, g6, g7, g8⟩ := id g
  have hl := sc_lm_le g2
  unfold wpX_choices
  dsimp only
  refine sx_isCode g2 (fun no => br_t rfl ?_) (fun c hc e => br_f (by decide) ?_)
  · unfold wpY_choices
    dsimp only
    exact sy_badCode g2 (fun _ => br_f (by decide) ⟨rfl, sc_mkR g⟩) (fun c hc e => absurd e (no c hc))
  · subst e
    refine sx_classOf g2 hc (fun ot' hL => ?_)
    refine sx_chH g3 g2 g5 (sc_Vd_ok g2 ⟨c, hc, rfl⟩) hL ?_
    unfold wpY_choices
    dsimp only
    refine sy_badCode g2 (fun no => absurd rfl (no c hc)) (fun c' hc' _ => br_t rfl ?_)
    refine sy_pairs g3 g7 g2 g5 hc ?_
    exact ⟨congrArg nI (sc_pr g2 g5 hc), sc_mkR g⟩
end
section
/-! 18: leads, follows, trace -/
noncomputable def sc_fb (R : Nat → Nat → Nat) (n m : Nat) (δ : Nat → Nat) (x D : Int32) : Int32 := sc_fd (fun c => sc_dI (δ c) = D ∧ sc_ld R n m c x) (sc_lm n) 0
noncomputable def sc_tv (R : Nat → Nat → Nat) (n m : Nat) (δ : Nat → Nat) (i : Nat) : Nat → Int32 → Int32
  | 0, x => x
  | d + 1, x => sc_tv R n m δ i d (sc_fb R n m δ x (nI (i + d)))
theorem sc_fb_e {R : Nat → Nat → Nat} {n m : Nat} {δ δ' : Nat → Nat} (h : ∀ c, c < sc_lm n → δ c = δ' c) (x D : Int32) : sc_fb R n m δ x D = sc_fb R n m δ' x D :=
  sc_fd_i (L := sc_lm n) (fun c hc => by rw [h c hc]) (sc_lm n) 0 (by omega)
theorem sc_tv_e {R : Nat → Nat → Nat} {n m i : Nat} {δ δ' : Nat → Nat} (h : ∀ c, c < sc_lm n → δ c = δ' c) : ∀ d x, sc_tv R n m δ i d x = sc_tv R n m δ' i d x := by
  intro d
  induction d with
  | zero => intro x; rfl
  | succ d ih =>
    intro x
    show sc_tv R n m δ i d (sc_fb R n m δ x (nI (i + d))) = sc_tv R n m δ' i d (sc_fb R n m δ' x (nI (i + d)))
    rw [sc_fb_e h, ih]
theorem sc_made {R : Nat → Nat → Nat} {n c p i : Nat} (hp : p < n) (y : sc_pl c p = R 0 i) :
    nI c + (nI (R 1 i) - nI (R 0 i)) * nI (3 ^ p) + (nI (sc_ms R (sc_sh n c) i) - nI (sc_sh n c)) * nI (3 ^ n) + (((nI (sc_mh R n (sc_hd n c) p i) - nI (sc_hd n c)) * 3) * nI (3 ^ n)) = nI (sc_mk R n c p i) := by
  have h1 := sc_vl_u (q := sc_pl c) (p := p) (v := R 1 i) n hp
  have h2 := sc_cd_o n c
  rw [y] at h1
  have c1 : nI (sc_vl (sc_up (sc_pl c) p (R 1 i)) n) + nI (3 ^ p) * nI (R 0 i) = nI (sc_vl (sc_pl c) n) + nI (3 ^ p) * nI (R 1 i) := by
    rw [pk_mul, pk_mul, nI_add, nI_add, h1]
  have e3 : nI (3 ^ (n + 1)) = nI (3 ^ n) * 3 := by
    rw [Nat.pow_succ]; exact (pk_mul (3 ^ n) 3).symm
  have c2 : nI c = nI (sc_vl (sc_pl c) n) + nI (3 ^ n) * nI (sc_sh n c) + nI (3 ^ n) * 3 * nI (sc_hd n c) := by
    rw [← e3, pk_mul, pk_mul, nI_add, nI_add]
    exact congrArg nI h2.symm
  have c3 : nI (sc_mk R n c p i) = nI (sc_vl (sc_up (sc_pl c) p (R 1 i)) n) + nI (3 ^ n) * nI (sc_ms R (sc_sh n c) i) + nI (3 ^ n) * 3 * nI (sc_mh R n (sc_hd n c) p i) := by
    rw [← e3, pk_mul, pk_mul, nI_add, nI_add]; rfl
  rw [c2, c3]
  generalize nI (sc_vl (sc_up (sc_pl c) p (R 1 i)) n) = V' at c1 ⊢
  generalize nI (sc_vl (sc_pl c) n) = V at c1 ⊢
  generalize nI (3 ^ p) = w at c1 ⊢
  generalize nI (3 ^ n) = N
  generalize nI (R 0 i) = F at c1 ⊢
  generalize nI (R 1 i) = T at c1 ⊢
  generalize nI (sc_sh n c) = S
  generalize nI (sc_hd n c) = H
  generalize nI (sc_ms R (sc_sh n c) i) = S'
  generalize nI (sc_mh R n (sc_hd n c) p i) = H'
  grind
section XL
variable {n m ac : Nat} {R A : Nat → Nat → Nat} {sh ho kn ex : Int32} {dp qu av ot : Nat → Int32} {K : Nat} {q δ : Nat → Nat}
theorem sx_ld142 {post : Int32 → SX → Prop} {J : Int32 → Prop} {J' : Int32 → Int32 → Prop} {c p i : Nat} {x z0 z1 : Int32} (hR : sc_RO R) (hi : i < 12)
    (v : z1 + z0 + (((nI (sc_mh R n (sc_hd n c) p i) - nI (sc_hd n c)) * 3) * nI (3 ^ n)) = nI (sc_mk R n c p i))
    (h1 : nI (sc_mk R n c p i) = x → post 1 (sh, ho, (nI n), (nI m), (nI ac), kn, ex, (sc_rA (R 0)), (sc_rA (R 1)), (sc_rA (R 2)), (sc_rA (R 3)), (sc_rA (R 4)), (sc_rA (R 5)), (sc_rA (R 6)), (sc_rA (A 0)), (sc_rA (A 1)), (sc_rA (A 2)), dp, qu, av, ot)) (h0 : ¬ nI (sc_mk R n c p i) = x → J' (nI (3 ^ (p + 1))) (nI (p + 1))) :
    wX_leads_142 post J J' (nI c) x (nI (3 ^ n)) (nI (sc_hd n c)) (nI i) (nI (3 ^ p)) (nI p) z0 z1 sh ho (nI n) (nI m) (nI ac) kn ex (sc_rA (R 0)) (sc_rA (R 1)) (sc_rA (R 2)) (sc_rA (R 3)) (sc_rA (R 4)) (sc_rA (R 5)) (sc_rA (R 6)) (sc_rA (A 0)) (sc_rA (A 1)) (sc_rA (A 2)) dp qu av ot := by
  have r := hR i
  have i12 : vp_in (nI i) 12 := pk_in i 12 hi
  have e6 : sc_rA (R 6) (nI i).toNatClampNeg = nI (R 6 i) := sc_rA_a _ (by omega)
  have ew : nI (3 ^ p) * 3 = nI (3 ^ (p + 1)) := by rw [Nat.pow_succ]; exact pk_mul (3 ^ p) 3
  have j185 : ∀ h, h = sc_mh R n (sc_hd n c) p i → wX_leads_185 post J J' (nI c) x (nI (3 ^ n)) (nI (sc_hd n c)) (nI i) (nI (3 ^ p)) (nI p) (z1 + z0) (nI h) sh ho (nI n) (nI m) (nI ac) kn ex (sc_rA (R 0)) (sc_rA (R 1)) (sc_rA (R 2)) (sc_rA (R 3)) (sc_rA (R 4)) (sc_rA (R 5)) (sc_rA (R 6)) (sc_rA (A 0)) (sc_rA (A 1)) (sc_rA (A 2)) dp qu av ot := by
    intro h hh
    refine nm_r (e' := nI (sc_mk R n c p i)) (by rw [hh]; exact v) ⟨h1, fun e => nm_r ew (nm_r (nI_1 p) (h0 e))⟩
  refine nm_e ⟨i12, ?_⟩
  refine pk_eq (R 6 i) 1 (fun t => ⟨i12, ?_⟩) (fun t => ⟨i12, ?_⟩) e6
  · refine pk_eq (R 6 i) 2 (fun t2 => by omega) (fun t2 => j185 p (sc_mh1 t).symm) e6
  · refine pk_eq (R 6 i) 2 (fun t2 => j185 n (sc_mh2 t2).symm) (fun t2 => j185 (sc_hd n c) (sc_mh3 t t2).symm) e6
theorem sx_ld39 {post : Int32 → SX → Prop} {J : Int32 → Prop} {c i : Nat} {x : Int32} (hn : n ≤ 4) (hR : sc_RO R) (hc : c < sc_lm n) (hi : i < 12) (hL : sc_L n (sc_cl n c) ot)
    (h1 : (∃ p, p < n ∧ sc_tk R n c p i ∧ nI (sc_mk R n c p i) = x) → post 1 ((nI (sc_kS (sc_cl n c))), (nI (sc_kH (sc_cl n c))), (nI n), (nI m), (nI ac), kn, ex, (sc_rA (R 0)), (sc_rA (R 1)), (sc_rA (R 2)), (sc_rA (R 3)), (sc_rA (R 4)), (sc_rA (R 5)), (sc_rA (R 6)), (sc_rA (A 0)), (sc_rA (A 1)), (sc_rA (A 2)), dp, qu, av, ot)) (hJ : (∀ p, p < n → ¬ (sc_tk R n c p i ∧ nI (sc_mk R n c p i) = x)) → J (nI (i + 1))) :
    ∀ d p, p + d = n → (∀ p', p' < p → ¬ (sc_tk R n c p' i ∧ nI (sc_mk R n c p' i) = x)) → wX_leads_39 post J (nI c) x (nI (3 ^ n)) (nI (sc_hd n c)) (nI i) (nI (sc_kS (sc_cl n c))) (nI (sc_kH (sc_cl n c))) (nI n) (nI m) (nI ac) kn ex (sc_rA (R 0)) (sc_rA (R 1)) (sc_rA (R 2)) (sc_rA (R 3)) (sc_rA (R 4)) (sc_rA (R 5)) (sc_rA (R 6)) (sc_rA (A 0)) (sc_rA (A 1)) (sc_rA (A 2)) dp qu av ot (d + 1) (nI (3 ^ p)) (nI p) := by
  have hl := sc_lm_le hn
  have hh := sc_hd_le hc
  have r := hR i
  have hok : sc_ok n (sc_cl n c) := sc_Vd_ok hn ⟨c, hc, rfl⟩
  have i12 : vp_in (nI i) 12 := pk_in i 12 hi
  have e0 : sc_rA (R 0) (nI i).toNatClampNeg = nI (R 0 i) := sc_rA_a _ (by omega)
  have e1 : sc_rA (R 1) (nI i).toNatClampNeg = nI (R 1 i) := sc_rA_a _ (by omega)
  have e3 : sc_rA (R 3) (nI i).toNatClampNeg = nI (R 3 i) := sc_rA_a _ (by omega)
  intro d
  induction d with
  | zero =>
    intro p hp hno
    have e : p = n := by omega
    subst e
    exact br_t (nI_le (Nat.le_refl _) (by omega)) (nm_r (nI_1 i) (hJ hno))
  | succ d ih =>
    intro p hp hno
    have ew : nI (3 ^ p) * 3 = nI (3 ^ (p + 1)) := by rw [Nat.pow_succ]; exact pk_mul (3 ^ p) 3
    have w0 := sc_3p p
    have w1 := sc_3lt (k := p) (by omega)
    have hpl := sc_pl_lt c p
    have nx : ¬ (sc_tk R n c p i ∧ nI (sc_mk R n c p i) = x) → wX_leads_39 post J (nI c) x (nI (3 ^ n)) (nI (sc_hd n c)) (nI i) (nI (sc_kS (sc_cl n c))) (nI (sc_kH (sc_cl n c))) (nI n) (nI m) (nI ac) kn ex (sc_rA (R 0)) (sc_rA (R 1)) (sc_rA (R 2)) (sc_rA (R 3)) (sc_rA (R 4)) (sc_rA (R 5)) (sc_rA (R 6)) (sc_rA (A 0)) (sc_rA (A 1)) (sc_rA (A 2)) dp qu av ot (d + 1) (nI (3 ^ (p + 1))) (nI (p + 1)) := fun z => ih (p + 1) (by omega) (fun p' h' => by
      by_cases y : p' = p
      · rw [y]; exact z
      · exact hno p' (by omega))
    have ed : nI c / nI (3 ^ p) = nI (c / 3 ^ p) := pk_div (by omega) w0 (by omega)
    have em : nI c / nI (3 ^ p) - nI c / nI (3 ^ p) / 3 * 3 = nI (sc_pl c p) := by
      have := Nat.div_le_self c (3 ^ p)
      rw [ed]; exact pk_rem (d := 3) (by omega) (by decide) (by decide)
    have j60 : ∀ b, b = decide (p = sc_hd n c) → wX_leads_60 post J (wX_leads_39 post J (nI c) x (nI (3 ^ n)) (nI (sc_hd n c)) (nI i) (nI (sc_kS (sc_cl n c))) (nI (sc_kH (sc_cl n c))) (nI n) (nI m) (nI ac) kn ex (sc_rA (R 0)) (sc_rA (R 1)) (sc_rA (R 2)) (sc_rA (R 3)) (sc_rA (R 4)) (sc_rA (R 5)) (sc_rA (R 6)) (sc_rA (A 0)) (sc_rA (A 1)) (sc_rA (A 2)) dp qu av ot (d + 1)) (nI c) x (nI (3 ^ n)) (nI (sc_hd n c)) (nI i) (nI (3 ^ p)) (nI p) (sc_bI b) (nI (sc_kS (sc_cl n c))) (nI (sc_kH (sc_cl n c))) (nI n) (nI m) (nI ac) kn ex (sc_rA (R 0)) (sc_rA (R 1)) (sc_rA (R 2)) (sc_rA (R 3)) (sc_rA (R 4)) (sc_rA (R 5)) (sc_rA (R 6)) (sc_rA (A 0)) (sc_rA (A 1)) (sc_rA (A 2)) dp qu av ot := by
      intro b hb
      refine ⟨nI_ne0 w0 (by omega), by decide, i12, ?_⟩
      refine pk_eq (sc_pl c p) (R 0 i) (fun y => ?_) (fun y => nm_r ew (nm_r (nI_1 p) (nx (fun z => y z.1.1)))) em e0
      have br := sc_br hn hR hc (show p < n by omega) y
      rw [← hb] at br
      refine sx_en b hi hn hR hok hL (fun hen => br_f (by decide) ?_) (fun hen => br_t rfl (nm_r ew (nm_r (nI_1 p) (nx (fun z => hen (br.mp z.1))))))
      have made := sc_made (R := R) (n := n) (c := c) (p := p) (i := i) (by omega) y
      have yes : nI (sc_mk R n c p i) = x → post 1 ((nI (sc_kS (sc_cl n c))), (nI (sc_kH (sc_cl n c))), (nI n), (nI m), (nI ac), kn, ex, (sc_rA (R 0)), (sc_rA (R 1)), (sc_rA (R 2)), (sc_rA (R 3)), (sc_rA (R 4)), (sc_rA (R 5)), (sc_rA (R 6)), (sc_rA (A 0)), (sc_rA (A 1)), (sc_rA (A 2)), dp, qu, av, ot) := fun z => h1 ⟨p, by omega, br.mpr hen, z⟩
      refine ⟨i12, i12, nm_r (e' := nI c + (nI (R 1 i) - nI (R 0 i)) * nI (3 ^ p)) (by rw [e0, e1]) ⟨i12, ?_⟩⟩
      refine pk_eq (R 3 i) 3 (fun t => ?_) (fun t => ⟨i12, ?_⟩) e3
      · refine sx_ld142 hR hi ?_ yes (fun z => nx (fun w => z w.2))
        have ms : sc_ms R (sc_sh n c) i = sc_sh n c := if_pos t
        rw [ms, Int32.sub_self, Int32.zero_mul] at made
        exact made
      · refine sx_ld142 hR hi ?_ yes (fun z => nx (fun w => z w.2))
        have ms : sc_ms R (sc_sh n c) i = R 3 i := if_neg t
        rw [ms] at made
        rw [e3, sc_cl_S hn]
        exact made
    refine br_f (nI_ge (by omega) (by omega)) ?_
    refine pk_eq p (sc_hd n c) (fun z => j60 true (decide_eq_true z).symm) (fun z => j60 false (decide_eq_false z).symm)
theorem sx_ld24 {post : Int32 → SX → Prop} {c : Nat} {x : Int32} (hm : m ≤ 12) (hn : n ≤ 4) (hR : sc_RO R) (hc : c < sc_lm n) (hL : sc_L n (sc_cl n c) ot)
    (h1 : sc_ld R n m c x → post 1 ((nI (sc_kS (sc_cl n c))), (nI (sc_kH (sc_cl n c))), (nI n), (nI m), (nI ac), kn, ex, (sc_rA (R 0)), (sc_rA (R 1)), (sc_rA (R 2)), (sc_rA (R 3)), (sc_rA (R 4)), (sc_rA (R 5)), (sc_rA (R 6)), (sc_rA (A 0)), (sc_rA (A 1)), (sc_rA (A 2)), dp, qu, av, ot)) (h0 : ¬ sc_ld R n m c x → post 0 ((nI (sc_kS (sc_cl n c))), (nI (sc_kH (sc_cl n c))), (nI n), (nI m), (nI ac), kn, ex, (sc_rA (R 0)), (sc_rA (R 1)), (sc_rA (R 2)), (sc_rA (R 3)), (sc_rA (R 4)), (sc_rA (R 5)), (sc_rA (R 6)), (sc_rA (A 0)), (sc_rA (A 1)), (sc_rA (A 2)), dp, qu, av, ot)) :
    ∀ d i, i + d = m → (∀ i' p, i' < i → p < n → ¬ (sc_tk R n c p i' ∧ nI (sc_mk R n c p i') = x)) → wX_leads_24 post (nI c) x (nI (3 ^ n)) (nI (sc_hd n c)) (nI (sc_kS (sc_cl n c))) (nI (sc_kH (sc_cl n c))) (nI n) (nI m) (nI ac) kn ex (sc_rA (R 0)) (sc_rA (R 1)) (sc_rA (R 2)) (sc_rA (R 3)) (sc_rA (R 4)) (sc_rA (R 5)) (sc_rA (R 6)) (sc_rA (A 0)) (sc_rA (A 1)) (sc_rA (A 2)) dp qu av ot (d + 1) (nI i) := by
  intro d
  induction d with
  | zero =>
    intro i hi hno
    have e : i = m := by omega
    subst e
    refine br_t (nI_le (Nat.le_refl _) (by omega)) (h0 ?_)
    rintro ⟨p, i', y1, y2, y3, y4⟩
    exact hno i' p y2 y1 ⟨y3, y4⟩
  | succ d ih =>
    intro i hi hno
    refine br_f (nI_ge (by omega) (by omega)) ⟨n + 1, ?_⟩
    refine sx_ld39 (c := c) (i := i) (x := x) hn hR hc (by omega) hL ?_ (fun hz => ?_) n 0 (by omega) (fun p' h' => by omega)
    · rintro ⟨p, y1, y2, y3⟩
      exact h1 ⟨p, i, y1, by omega, y2, y3⟩
    · refine ih (i + 1) (by omega) (fun i' p y1 y2 => ?_)
      by_cases y : i' = i
      · rw [y]; exact hz p y2
      · exact hno i' p (by omega) y2
theorem sx_leads {post : Int32 → SX → Prop} {c : Nat} {x : Int32} (hm : m ≤ 12) (hn : n ≤ 4) (hR : sc_RO R) (hc : c < sc_lm n)
    (h1 : sc_ld R n m c x → ∀ ot', sc_L n (sc_cl n c) ot' → post 1 ((nI (sc_kS (sc_cl n c))), (nI (sc_kH (sc_cl n c))), (nI n), (nI m), (nI ac), kn, ex, (sc_rA (R 0)), (sc_rA (R 1)), (sc_rA (R 2)), (sc_rA (R 3)), (sc_rA (R 4)), (sc_rA (R 5)), (sc_rA (R 6)), (sc_rA (A 0)), (sc_rA (A 1)), (sc_rA (A 2)), dp, qu, av, ot')) (h0 : ¬ sc_ld R n m c x → ∀ ot', sc_L n (sc_cl n c) ot' → post 0 ((nI (sc_kS (sc_cl n c))), (nI (sc_kH (sc_cl n c))), (nI n), (nI m), (nI ac), kn, ex, (sc_rA (R 0)), (sc_rA (R 1)), (sc_rA (R 2)), (sc_rA (R 3)), (sc_rA (R 4)), (sc_rA (R 5)), (sc_rA (R 6)), (sc_rA (A 0)), (sc_rA (A 1)), (sc_rA (A 2)), dp, qu, av, ot')) :
    wpX_leads post (sh, ho, (nI n), (nI m), (nI ac), kn, ex, (sc_rA (R 0)), (sc_rA (R 1)), (sc_rA (R 2)), (sc_rA (R 3)), (sc_rA (R 4)), (sc_rA (R 5)), (sc_rA (R 6)), (sc_rA (A 0)), (sc_rA (A 1)), (sc_rA (A 2)), dp, qu, av, ot) (nI c) x := by
  have hl := sc_lm_le hn
  have h3 := sc_3lt (k := n + 1) (by omega)
  have e3 : 3 * nI (3 ^ n) = nI (3 ^ (n + 1)) := by
    show nI 3 * nI (3 ^ n) = nI (3 ^ (n + 1))
    rw [pk_mul, Nat.pow_succ, Nat.mul_comm]
  unfold wpX_leads
  dsimp only
  refine sx_classOf hn hc (fun ot' hL => ?_)
  dsimp only
  refine sx_power hn ?_
  refine ⟨?_, nm_r (e' := nI (sc_hd n c)) ?_ ⟨m + 1, sx_ld24 hm hn hR hc hL (fun z => h1 z ot' hL) (fun z => h0 z ot' hL) m 0 (by omega) (fun i' p h' => by omega)⟩⟩
  · rw [e3]; exact nI_ne0 (sc_3p _) (by omega)
  · rw [e3]; exact pk_div (by omega) (sc_3p _) (by omega)
/-! firstBad, firstBefore -/
theorem sx_fB7 {post : Int32 → SX → Prop} {x : Int32} (ha : ac ≤ 4) (hA : sc_AO A) (h1 : 1 ≤ n) (hn : n ≤ 4) (hX : sc_XA K q δ dp qu) :
    ∀ d c sh ho ot, c + d = sc_lm n → (∀ sh ho ot, post (sc_fd (fun c => sc_dI (δ (sc_cl n c)) = x ∧ sc_rg A n ac (sc_cl n c)) d c) (sh, ho, (nI n), (nI m), (nI ac), kn, ex, (sc_rA (R 0)), (sc_rA (R 1)), (sc_rA (R 2)), (sc_rA (R 3)), (sc_rA (R 4)), (sc_rA (R 5)), (sc_rA (R 6)), (sc_rA (A 0)), (sc_rA (A 1)), (sc_rA (A 2)), dp, qu, av, ot)) → wX_firstBad_7 post x (nI (sc_lm n)) (d + 1) (nI c) sh ho (nI n) (nI m) (nI ac) kn ex (sc_rA (R 0)) (sc_rA (R 1)) (sc_rA (R 2)) (sc_rA (R 3)) (sc_rA (R 4)) (sc_rA (R 5)) (sc_rA (R 6)) (sc_rA (A 0)) (sc_rA (A 1)) (sc_rA (A 2)) dp qu av ot := by
  have hl := sc_lm_le hn
  intro d
  induction d with
  | zero =>
    intro c sh ho ot hc h
    have e : c = sc_lm n := by omega
    exact br_t (by rw [e]; exact nI_le (Nat.le_refl _) (by omega)) (h sh ho ot)
  | succ d ih =>
    intro c sh ho ot hc h
    have hcl := sc_cl_lt (c := c) hn
    have nx : ¬ (sc_dI (δ (sc_cl n c)) = x ∧ sc_rg A n ac (sc_cl n c)) → ∀ sh ho ot, wX_firstBad_7 post x (nI (sc_lm n)) (d + 1) (nI (c + 1)) sh ho (nI n) (nI m) (nI ac) kn ex (sc_rA (R 0)) (sc_rA (R 1)) (sc_rA (R 2)) (sc_rA (R 3)) (sc_rA (R 4)) (sc_rA (R 5)) (sc_rA (R 6)) (sc_rA (A 0)) (sc_rA (A 1)) (sc_rA (A 2)) dp qu av ot := fun z sh ho ot => ih (c + 1) sh ho ot (by omega) (fun sh ho ot => by have := h sh ho ot; rw [sc_fd_f z] at this; exact this)
    refine br_f (nI_ge (by omega) (by omega)) ?_
    refine sx_classOf hn (by omega) (fun ot' hL => ?_)
    dsimp only
    refine ⟨pk_in (sc_cl n c) 300 hcl, ?_⟩
    rw [nI_clamp (by omega), hX.1 _ hcl]
    refine ⟨fun y => ?_, fun y => nm_r (nI_1 c) (nx (fun z => y z.1) _ _ _)⟩
    refine sx_rings ha h1 hn hA (sc_Vd_ok hn ⟨c, by omega, rfl⟩) (fun z ot' hL => br_f (by decide) ?_) (fun z ot' hL => br_t rfl (nm_r (nI_1 c) (nx (fun w => z w.2) _ _ _)))
    have := h (nI (sc_kS (sc_cl n c))) (nI (sc_kH (sc_cl n c))) ot'
    rw [sc_fd_t (d := d) ⟨y, z⟩] at this
    exact this
theorem sx_fB8 {post : Int32 → SX → Prop} {x D : Int32} (hm : m ≤ 12) (hR : sc_RO R) (h1 : 1 ≤ n) (hn : n ≤ 4) (hX : sc_XA K q δ dp qu) :
    ∀ d c sh ho ot, c + d = sc_lm n → (∀ sh ho ot, post (sc_fd (fun c => sc_dI (δ (sc_cl n c)) = D ∧ sc_ld R n m c x) d c) (sh, ho, (nI n), (nI m), (nI ac), kn, ex, (sc_rA (R 0)), (sc_rA (R 1)), (sc_rA (R 2)), (sc_rA (R 3)), (sc_rA (R 4)), (sc_rA (R 5)), (sc_rA (R 6)), (sc_rA (A 0)), (sc_rA (A 1)), (sc_rA (A 2)), dp, qu, av, ot)) → wX_firstBefore_8 post x D (nI (sc_lm n)) (d + 1) (nI c) sh ho (nI n) (nI m) (nI ac) kn ex (sc_rA (R 0)) (sc_rA (R 1)) (sc_rA (R 2)) (sc_rA (R 3)) (sc_rA (R 4)) (sc_rA (R 5)) (sc_rA (R 6)) (sc_rA (A 0)) (sc_rA (A 1)) (sc_rA (A 2)) dp qu av ot := by
  have hl := sc_lm_le hn
  intro d
  induction d with
  | zero =>
    intro c sh ho ot hc h
    have e : c = sc_lm n := by omega
    exact br_t (by rw [e]; exact nI_le (Nat.le_refl _) (by omega)) (h sh ho ot)
  | succ d ih =>
    intro c sh ho ot hc h
    have hcl := sc_cl_lt (c := c) hn
    have nx : ¬ (sc_dI (δ (sc_cl n c)) = D ∧ sc_ld R n m c x) → ∀ sh ho ot, wX_firstBefore_8 post x D (nI (sc_lm n)) (d + 1) (nI (c + 1)) sh ho (nI n) (nI m) (nI ac) kn ex (sc_rA (R 0)) (sc_rA (R 1)) (sc_rA (R 2)) (sc_rA (R 3)) (sc_rA (R 4)) (sc_rA (R 5)) (sc_rA (R 6)) (sc_rA (A 0)) (sc_rA (A 1)) (sc_rA (A 2)) dp qu av ot := fun z sh ho ot => ih (c + 1) sh ho ot (by omega) (fun sh ho ot => by have := h sh ho ot; rw [sc_fd_f z] at this; exact this)
    refine br_f (nI_ge (by omega) (by omega)) ?_
    refine sx_classOf hn (by omega) (fun ot' hL => ?_)
    dsimp only
    refine ⟨pk_in (sc_cl n c) 300 hcl, ?_⟩
    rw [nI_clamp (by omega), hX.1 _ hcl]
    refine ⟨fun y => ?_, fun y => nm_r (nI_1 c) (nx (fun z => y z.1) _ _ _)⟩
    refine sx_leads hm hn hR (by omega) (fun z ot' hL => br_f (by decide) ?_) (fun z ot' hL => br_t rfl (nm_r (nI_1 c) (nx (fun w => z w.2) _ _ _)))
    have := h (nI (sc_kS (sc_cl n c))) (nI (sc_kH (sc_cl n c))) ot'
    rw [sc_fd_t (d := d) ⟨y, z⟩] at this
    exact this
theorem sx_tr34 {post : Int32 → SX → Prop} {i : Nat} (hm : m ≤ 12) (hR : sc_RO R) (h1 : 1 ≤ n) (hn : n ≤ 4) (hi : i < 2000) (hX : sc_XA K q δ dp qu) :
    ∀ d x sh ho ot, d < 2000 → (∀ sh ho ot, post (sc_tv R n m (fun c => δ (sc_cl n c)) i d x) (sh, ho, (nI n), (nI m), (nI ac), kn, ex, (sc_rA (R 0)), (sc_rA (R 1)), (sc_rA (R 2)), (sc_rA (R 3)), (sc_rA (R 4)), (sc_rA (R 5)), (sc_rA (R 6)), (sc_rA (A 0)), (sc_rA (A 1)), (sc_rA (A 2)), dp, qu, av, ot)) → wX_trace_34 post (nI i) (d + 1) x (sc_dI (i + d)) sh ho (nI n) (nI m) (nI ac) kn ex (sc_rA (R 0)) (sc_rA (R 1)) (sc_rA (R 2)) (sc_rA (R 3)) (sc_rA (R 4)) (sc_rA (R 5)) (sc_rA (R 6)) (sc_rA (A 0)) (sc_rA (A 1)) (sc_rA (A 2)) dp qu av ot := by
  intro d
  induction d with
  | zero =>
    intro x sh ho ot hd h
    exact br_t ((sc_dI_lt' (by omega) (by omega)).mpr (Nat.le_refl _)) (h sh ho ot)
  | succ d ih =>
    intro x sh ho ot hd h
    refine br_f (fun z => ?_) ?_
    · have := (sc_dI_lt' (x := i + (d + 1)) (M := i) (by omega) (by omega)).mp z
      omega
    · have e : sc_dI (i + (d + 1)) = nI (i + d) := sc_dI_s (i + d)
      rw [e]
      unfold wpX_firstBefore
      dsimp only
      refine sx_limit hn ⟨sc_lm n + 1, sx_fB8 hm hR h1 hn hX (sc_lm n) 0 sh ho ot (by omega) (fun sh ho ot => ?_)⟩
      exact nm_r (sc_dI_p _) (ih _ sh ho ot (by omega) h)
end XL
section YL
variable {n m ac : Nat} {R A : Nat → Nat → Nat} {pw dY wY lY : Nat → Int32} {δ : Nat → Nat}
theorem sy_lB2 {post : Int32 → Prop} {x : Int32} (ha : ac ≤ 4) (hA : sc_AO A) (hP : sc_PW pw) (hn : n ≤ 4) (hX : sc_YA n δ dY) :
    ∀ d c, c + d = sc_lm n → post (sc_fd (fun c => sc_dI (δ c) = x ∧ sc_rg A n ac (sc_cl n c)) d c) → wY_leastBad_2 post x (nI n) (nI (sc_lm n)) (nI m) (nI ac) pw (sc_rA (R 0)) (sc_rA (R 1)) (sc_rA (R 2)) (sc_rA (R 3)) (sc_rA (R 4)) (sc_rA (R 5)) (sc_rA (R 6)) (sc_rA (A 0)) (sc_rA (A 1)) (sc_rA (A 2)) dY wY lY (d + 1) (nI c) := by
  have hl := sc_lm_le hn
  intro d
  induction d with
  | zero =>
    intro c hc h
    have e : c = sc_lm n := by omega
    exact br_t (by rw [e]; exact nI_le (Nat.le_refl _) (by omega)) h
  | succ d ih =>
    intro c hc h
    have nx : ¬ (sc_dI (δ c) = x ∧ sc_rg A n ac (sc_cl n c)) → wY_leastBad_2 post x (nI n) (nI (sc_lm n)) (nI m) (nI ac) pw (sc_rA (R 0)) (sc_rA (R 1)) (sc_rA (R 2)) (sc_rA (R 3)) (sc_rA (R 4)) (sc_rA (R 5)) (sc_rA (R 6)) (sc_rA (A 0)) (sc_rA (A 1)) (sc_rA (A 2)) dY wY lY (d + 1) (nI (c + 1)) := fun z => ih (c + 1) (by omega) (by rw [sc_fd_f z] at h; exact h)
    refine br_f (nI_ge (by omega) (by omega)) (br_f (nI_ge (b := 1215) (by omega) (by decide)) ⟨pk_in c 1215 (by omega), ?_⟩)
    rw [nI_clamp (by omega), hX c (by omega)]
    refine ⟨fun y => ?_, fun y => nm_r (nI_1 c) (nx (fun z => y z.1))⟩
    refine sy_bad ha hP hn hA (by omega) (fun z => br_f (by decide) ?_) (fun z => br_t rfl (nm_r (nI_1 c) (nx (fun w => z w.2))))
    rw [sc_fd_t (d := d) ⟨y, z⟩] at h
    exact h
theorem sy_lF2 {post : Int32 → Prop} {x D : Int32} (hm : m ≤ 12) (hR : sc_RO R) (hP : sc_PW pw) (hn : n ≤ 4) (hX : sc_YA n δ dY) :
    ∀ d c, c + d = sc_lm n → post (sc_fd (fun c => sc_dI (δ c) = D ∧ sc_ld R n m c x) d c) → wY_leastBefore_2 post D x (nI n) (nI (sc_lm n)) (nI m) (nI ac) pw (sc_rA (R 0)) (sc_rA (R 1)) (sc_rA (R 2)) (sc_rA (R 3)) (sc_rA (R 4)) (sc_rA (R 5)) (sc_rA (R 6)) (sc_rA (A 0)) (sc_rA (A 1)) (sc_rA (A 2)) dY wY lY (d + 1) (nI c) := by
  have hl := sc_lm_le hn
  intro d
  induction d with
  | zero =>
    intro c hc h
    have e : c = sc_lm n := by omega
    exact br_t (by rw [e]; exact nI_le (Nat.le_refl _) (by omega)) h
  | succ d ih =>
    intro c hc h
    have nx : ¬ (sc_dI (δ c) = D ∧ sc_ld R n m c x) → wY_leastBefore_2 post D x (nI n) (nI (sc_lm n)) (nI m) (nI ac) pw (sc_rA (R 0)) (sc_rA (R 1)) (sc_rA (R 2)) (sc_rA (R 3)) (sc_rA (R 4)) (sc_rA (R 5)) (sc_rA (R 6)) (sc_rA (A 0)) (sc_rA (A 1)) (sc_rA (A 2)) dY wY lY (d + 1) (nI (c + 1)) := fun z => ih (c + 1) (by omega) (by rw [sc_fd_f z] at h; exact h)
    refine br_f (nI_ge (by omega) (by omega)) (br_f (nI_ge (b := 1215) (by omega) (by decide)) ⟨pk_in c 1215 (by omega), ?_⟩)
    rw [nI_clamp (by omega), hX c (by omega)]
    refine ⟨fun y => ?_, fun y => nm_r (nI_1 c) (nx (fun z => y z.1))⟩
    refine sy_leads hm hP hn hR (by omega) (fun z => br_f (by decide) ?_) (fun z => br_t rfl (nm_r (nI_1 c) (nx (fun w => z w.2))))
    rw [sc_fd_t (d := d) ⟨y, z⟩] at h
    exact h
theorem sy_tr34 {post : Int32 → SY → Prop} {i : Nat} (hm : m ≤ 12) (hR : sc_RO R) (hP : sc_PW pw) (hn : n ≤ 4) (hi : i < 2000) (hX : sc_YA n δ dY) :
    ∀ d x, d < 2000 → post (sc_tv R n m δ i d x) ((nI n), (nI (sc_lm n)), (nI m), (nI ac), pw, (sc_rA (R 0)), (sc_rA (R 1)), (sc_rA (R 2)), (sc_rA (R 3)), (sc_rA (R 4)), (sc_rA (R 5)), (sc_rA (R 6)), (sc_rA (A 0)), (sc_rA (A 1)), (sc_rA (A 2)), dY, wY, lY) → wY_trace_34 post (nI i) (nI n) (nI (sc_lm n)) (nI m) (nI ac) pw (sc_rA (R 0)) (sc_rA (R 1)) (sc_rA (R 2)) (sc_rA (R 3)) (sc_rA (R 4)) (sc_rA (R 5)) (sc_rA (R 6)) (sc_rA (A 0)) (sc_rA (A 1)) (sc_rA (A 2)) dY wY lY (d + 1) x (sc_dI (i + d)) := by
  intro d
  induction d with
  | zero =>
    intro x hd h
    exact br_t ((sc_dI_lt' (by omega) (by omega)).mpr (Nat.le_refl _)) h
  | succ d ih =>
    intro x hd h
    refine br_f (fun z => ?_) ?_
    · have := (sc_dI_lt' (x := i + (d + 1)) (M := i) (by omega) (by omega)).mp z
      omega
    · have e : sc_dI (i + (d + 1)) = nI (i + d) := sc_dI_s (i + d)
      rw [e]
      refine ⟨sc_lm n + 1, sy_lF2 hm hR hP hn hX (sc_lm n) 0 (by omega) ?_⟩
      exact nm_r (sc_dI_p _) (ih _ (by omega) h)
end YL
theorem i_vc_follows {k : Nat} {u : SX} {v : SY} (I : i_Rel k u v) (hk : k + 5 ≤ 2561) (v1 : Int32) (v2 : Int32) : wpX_follows (fun r u' => wpY_follows (fun r' => r' = r ∧ i_Rel (k + 5) u' v) v v1 v2) u v1 v2 := by
  refine sc_el (P := fun u v => wpX_follows (fun r u' => wpY_follows (fun r' => r' = r ∧ i_Rel (k + 5) u' v) v v1 v2) u v1 v2) ?_ I
  intro n m ac R A sh ho kn ex dp qu av ot pw dY wY lY g
  obtain ⟨g1, g2, g3, g4, g5, g6, g7, g8⟩ := id g
  have hl := sc_lm_le g2
  unfold wpX_follows
  dsimp only
  refine sx_isCode g2 (fun no => br_t rfl ?_) (fun c hc e => br_f (by decide) ?_)
  · unfold wpY_follows
    dsimp only
    exact sy_badCode g2 (fun _ => br_f (by decide) ⟨rfl, sc_mkR g⟩) (fun c hc e => absurd e (no c hc))
  · subst e
    refine sx_isCode g2 (fun no => br_t rfl ?_) (fun c2 hc2 e => br_f (by decide) ?_)
    · unfold wpY_follows
      dsimp only
      refine sy_badCode g2 (fun no' => absurd rfl (no' c hc)) (fun c' hc' _ => br_t rfl ?_)
      exact sy_badCode g2 (fun _ => br_f (by decide) ⟨rfl, sc_mkR g⟩) (fun c hc e => absurd e (no c hc))
    · subst e
      have ey : ∀ (r : Int32) (sh ho : Int32) (ot : Nat → Int32), ((sc_ld R n m c (nI c2) → 1 = r) ∧ (¬ sc_ld R n m c (nI c2) → 0 = r)) → wpY_follows (fun r' => r' = r ∧ i_Rel (k + 5) (sh, ho, (nI n), (nI m), (nI ac), kn, ex, (sc_rA (R 0)), (sc_rA (R 1)), (sc_rA (R 2)), (sc_rA (R 3)), (sc_rA (R 4)), (sc_rA (R 5)), (sc_rA (R 6)), (sc_rA (A 0)), (sc_rA (A 1)), (sc_rA (A 2)), dp, qu, av, ot) ((nI n), (nI (sc_lm n)), (nI m), (nI ac), pw, (sc_rA (R 0)), (sc_rA (R 1)), (sc_rA (R 2)), (sc_rA (R 3)), (sc_rA (R 4)), (sc_rA (R 5)), (sc_rA (R 6)), (sc_rA (A 0)), (sc_rA (A 1)), (sc_rA (A 2)), dY, wY, lY)) ((nI n), (nI (sc_lm n)), (nI m), (nI ac), pw, (sc_rA (R 0)), (sc_rA (R 1)), (sc_rA (R 2)), (sc_rA (R 3)), (sc_rA (R 4)), (sc_rA (R 5)), (sc_rA (R 6)), (sc_rA (A 0)), (sc_rA (A 1)), (sc_rA (A 2)), dY, wY, lY) (nI c) (nI c2) := by
        intro r sh ho ot hr
        unfold wpY_follows
        dsimp only
        refine sy_badCode g2 (fun no' => absurd rfl (no' c hc)) (fun c' hc' _ => br_t rfl ?_)
        refine sy_badCode g2 (fun no' => absurd rfl (no' c2 hc2)) (fun c' hc' _ => br_t rfl ?_)
        exact sy_leads g3 g7 g2 g5 hc (fun z => br_f (by decide) ⟨hr.1 z, sc_mkR g⟩) (fun z => br_t rfl ⟨hr.2 z, sc_mkR g⟩)
      refine sx_leads g3 g2 g5 hc (fun z ot' hL => br_f (by decide) (ey 1 _ _ _ ⟨fun _ => rfl, fun w => absurd z w⟩)) (fun z ot' hL => br_t rfl (ey 0 _ _ _ ⟨fun w => absurd w z, fun _ => rfl⟩))
theorem i_vc_trace {k : Nat} {u : SX} {v : SY} (I : i_Rel k u v) (hk : k + 5 ≤ 2561) (v1 : Int32) : wpX_trace (fun r u' => wpY_trace (fun r' v' => r' = r ∧ i_Rel (k + 5) u' v') v v1) u v1 := by
  refine sc_el (P := fun u v => wpX_trace (fun r u' => wpY_trace (fun r' v' => r' = r ∧ i_Rel (k + 5) u' v') v v1) u v1) ?_ I
  intro n m ac R A sh ho kn ex dp qu av ot pw dY wY lY g
  obtain ⟨g1, g2, g3, g4, g5, g6, g7, g8⟩ := id g
  unfold wpX_trace
  dsimp only
  refine sx_violation g3 g4 g1 g2 g5 g6 g8 (fun sh ho ot K q δx dp qu r hX hQ hDx hr => ?_)
  dsimp only
  have hd : ∀ δy, sc_Dt (sc_S R n m) (sc_lm n) (sc_st n) δy → ∀ c, c < sc_lm n → δy c = δx (sc_cl n c) := fun δy hDy c hc => sc_un g2 g5 hDy hDx (sc_Qd_v hQ) hc
  have ey : ∀ {P : Int32 → SY → Prop}, (∀ dY δy, sc_YA n δy dY → (∀ c, c < sc_lm n → δy c = δx (sc_cl n c)) → (0 ≤ r → ((v1 < 0 → P (-2) ((nI n), (nI (sc_lm n)), (nI m), (nI ac), pw, (sc_rA (R 0)), (sc_rA (R 1)), (sc_rA (R 2)), (sc_rA (R 3)), (sc_rA (R 4)), (sc_rA (R 5)), (sc_rA (R 6)), (sc_rA (A 0)), (sc_rA (A 1)), (sc_rA (A 2)), dY, wY, lY)) ∧ (¬ v1 < 0 → ((v1 ≤ r → (wpY_leastBad (fun r_23 => (∀ x4_42 : Int32, x4_42 = r - 1 → (∃ n34 : Nat, wY_trace_34 P v1 (nI n) (nI (sc_lm n)) (nI m) (nI ac) pw (sc_rA (R 0)) (sc_rA (R 1)) (sc_rA (R 2)) (sc_rA (R 3)) (sc_rA (R 4)) (sc_rA (R 5)) (sc_rA (R 6)) (sc_rA (A 0)) (sc_rA (A 1)) (sc_rA (A 2)) dY wY lY n34 r_23 x4_42))) ((nI n), (nI (sc_lm n)), (nI m), (nI ac), pw, (sc_rA (R 0)), (sc_rA (R 1)), (sc_rA (R 2)), (sc_rA (R 3)), (sc_rA (R 4)), (sc_rA (R 5)), (sc_rA (R 6)), (sc_rA (A 0)), (sc_rA (A 1)), (sc_rA (A 2)), dY, wY, lY) r)) ∧ (¬ v1 ≤ r → P (-2) ((nI n), (nI (sc_lm n)), (nI m), (nI ac), pw, (sc_rA (R 0)), (sc_rA (R 1)), (sc_rA (R 2)), (sc_rA (R 3)), (sc_rA (R 4)), (sc_rA (R 5)), (sc_rA (R 6)), (sc_rA (A 0)), (sc_rA (A 1)), (sc_rA (A 2)), dY, wY, lY)))))) ∧ (¬ 0 ≤ r → P (-1) ((nI n), (nI (sc_lm n)), (nI m), (nI ac), pw, (sc_rA (R 0)), (sc_rA (R 1)), (sc_rA (R 2)), (sc_rA (R 3)), (sc_rA (R 4)), (sc_rA (R 5)), (sc_rA (R 6)), (sc_rA (A 0)), (sc_rA (A 1)), (sc_rA (A 2)), dY, wY, lY))) → wpY_trace P ((nI n), (nI (sc_lm n)), (nI m), (nI ac), pw, (sc_rA (R 0)), (sc_rA (R 1)), (sc_rA (R 2)), (sc_rA (R 3)), (sc_rA (R 4)), (sc_rA (R 5)), (sc_rA (R 6)), (sc_rA (A 0)), (sc_rA (A 1)), (sc_rA (A 2)), dY, wY, lY) v1 := by
    intro P h
    unfold wpY_trace
    dsimp only
    refine sy_violation g3 g4 g7 g2 g5 g6 (fun dY δy r' hY hDy hb hr' => ?_)
    rw [sc_vi g2 (sc_Qd_v hQ) (hd δy hDy) hr hr']
    exact h dY δy hY (hd δy hDy)
  have gg := sc_G_ex g hX hQ hDx
  rcases hr with ⟨e, _⟩ | ⟨e, e1, he, _, _⟩
  · have z : ¬ (0 : Int32) ≤ r := by rw [e]; decide
    refine br_f z (ey (fun dY δy hY hdy => br_f z ⟨rfl, sc_mkR gg⟩))
  · have z : (0 : Int32) ≤ r := by rw [e1]; exact nI_pos' (by omega)
    refine br_t z ?_
    by_cases c1 : v1 < 0
    · exact br_t c1 (ey (fun dY δy hY hdy => br_t z (br_t c1 ⟨rfl, sc_mkR gg⟩)))
    refine br_f c1 ?_
    by_cases c2 : v1 ≤ r
    rotate_left
    · exact br_f c2 (ey (fun dY δy hY hdy => br_t z (br_f c1 (br_f c2 ⟨rfl, sc_mkR gg⟩))))
    refine br_t c2 ?_
    obtain ⟨i, hi, rfl⟩ := nI_of c1
    subst e1
    have hie : i ≤ e := (nI_leI hi (by omega)).mp c2
    obtain ⟨d, hd'⟩ : ∃ d, e = i + d := ⟨e - i, by omega⟩
    unfold wpX_firstBad
    dsimp only
    refine sx_limit g2 ⟨sc_lm n + 1, sx_fB7 g4 g6 g1 g2 hX (sc_lm n) 0 sh ho ot (by omega) (fun sh ho ot => ?_)⟩
    refine nm_r (e' := sc_dI (i + d)) (by rw [← hd']; exact sc_dI_m e) ⟨d + 1, ?_⟩
    refine sx_tr34 g3 g5 g1 g2 (by omega) hX d _ sh ho ot (by omega) (fun sh ho ot => ?_)
    refine ey (fun dY δy hY hdy => br_t z (br_f c1 (br_t c2 ?_)))
    refine ⟨sc_lm n + 1, sy_lB2 g4 g6 g7 g2 hY (sc_lm n) 0 (by omega) ?_⟩
    refine nm_r (e' := sc_dI (i + d)) (by rw [← hd']; exact sc_dI_m e) ⟨d + 1, ?_⟩
    refine sy_tr34 g3 g5 g7 g2 (by omega) hY d _ (by omega) ⟨?_, sc_mkR gg⟩
    rw [sc_tv_e hdy]
    refine congrArg _ (sc_fd_i (L := sc_lm n) (fun c hc => ?_) (sc_lm n) 0 (by omega))
    rw [hdy c hc]
end
section
/-! 19: endless -/
def sc_EI (T : Nat → Nat → Prop) (N : Nat) (V W : Nat → Prop) : Prop :=
  (∀ C, C < N → W C → V C) ∧ (∀ G : Nat → Prop, (∀ C, C < N → G C → V C ∧ ∃ C', C' < N ∧ T C C' ∧ G C') → ∀ C, C < N → G C → W C)
noncomputable def sc_cW (N : Nat) (W : Nat → Prop) : Nat := sc_sm (fun C => sc_b (W C)) N
def sc_gX (T : Nat → Nat → Prop) (N C : Nat) (W : Nat → Prop) : Prop := ∃ C', C' < N ∧ T C C' ∧ W C'
theorem sc_vb0 : vp_nar .boolean 0 = 0 := by decide
theorem sc_vb1 : vp_nar .boolean 1 = 1 := by decide
theorem sc_EI_g {T : Nat → Nat → Prop} {N : Nat} {V W : Nat → Prop} (h : sc_EI T N V W) (hg : ∀ C, C < N → W C → sc_gX T N C W) : sc_Gf T N V W :=
  ⟨fun C hC hW => ⟨h.1 C hC hW, hg C hC hW⟩, h.2⟩
theorem sc_EI_r {T : Nat → Nat → Prop} {N C : Nat} {V W : Nat → Prop} (h : sc_EI T N V W) (hC : C < N) (hW : W C) (hg : ¬ sc_gX T N C W) : sc_EI T N V (fun D => W D ∧ D ≠ C) ∧ sc_cW N (fun D => W D ∧ D ≠ C) + 1 = sc_cW N W := by
  refine ⟨⟨fun D hD z => h.1 D hD z.1, fun G hG D hD hGD => ⟨h.2 G hG D hD hGD, fun e => hg ?_⟩⟩, ?_⟩
  · rw [e] at hGD
    obtain ⟨_, C', h1, h2, h3⟩ := hG C hC hGD
    exact ⟨C', h1, h2, h.2 G hG C' h1 h3⟩
  · exact (sc_cn_u (P := fun D => W D ∧ D ≠ C) (Q := W) hC (fun z => z.2 rfl) hW (fun j _ hj => ⟨fun z => ⟨z, hj⟩, fun z => z.1⟩)).symm
section XE
variable {n m ac : Nat} {R A : Nat → Nat → Nat} {sh ho kn ex : Int32} {dp qu av ot : Nat → Int32} {K : Nat} {q δ : Nat → Nat}
theorem sx_sa7 {post : Int32 → SX → Prop} {C : Nat} {W : Nat → Prop} (hm : m ≤ 12) (hn : n ≤ 4) (hR : sc_RO R) (hV : sc_Vd n C) (hL : sc_L n C ot) (hW : sc_WA 300 W av)
    (h1 : sc_gX (sc_T R n m) 300 C W → post 1 ((nI (sc_kS C)), (nI (sc_kH C)), (nI n), (nI m), (nI ac), kn, ex, (sc_rA (R 0)), (sc_rA (R 1)), (sc_rA (R 2)), (sc_rA (R 3)), (sc_rA (R 4)), (sc_rA (R 5)), (sc_rA (R 6)), (sc_rA (A 0)), (sc_rA (A 1)), (sc_rA (A 2)), dp, qu, av, ot)) (h0 : ¬ sc_gX (sc_T R n m) 300 C W → post 0 ((nI (sc_kS C)), (nI (sc_kH C)), (nI n), (nI m), (nI ac), kn, ex, (sc_rA (R 0)), (sc_rA (R 1)), (sc_rA (R 2)), (sc_rA (R 3)), (sc_rA (R 4)), (sc_rA (R 5)), (sc_rA (R 6)), (sc_rA (A 0)), (sc_rA (A 1)), (sc_rA (A 2)), dp, qu, av, ot)) :
    ∀ d e, e + d = 2 * m → (∀ i b, 2 * i + sc_bn b < e → sc_en R n C i b → ¬ W (sc_af R n C i b)) → wX_staysAlive_7 post (nI (sc_kS C)) (nI (sc_kH C)) (nI n) (nI m) (nI ac) kn ex (sc_rA (R 0)) (sc_rA (R 1)) (sc_rA (R 2)) (sc_rA (R 3)) (sc_rA (R 4)) (sc_rA (R 5)) (sc_rA (R 6)) (sc_rA (A 0)) (sc_rA (A 1)) (sc_rA (A 2)) dp qu av ot (d + 1) (nI e) := by
  have e2m : 2 * nI m = nI (2 * m) := pk_mul 2 m
  have hk := sc_Vd_ok hn hV
  intro d
  induction d with
  | zero =>
    intro e he hno
    have ee : e = 2 * m := by omega
    subst ee
    refine br_t (by rw [e2m]; exact nI_le (Nat.le_refl _) (by omega)) (h0 ?_)
    rintro ⟨C', _, ⟨i, b, hi, hen, rfl⟩, hw⟩
    refine hno i b ?_ hen hw
    cases b
    · show 2 * i + 0 < 2 * m; omega
    · show 2 * i + 1 < 2 * m; omega
  | succ d ih =>
    intro e he hno
    have esh : nI e >>> ((1 : Int32) &&& 31) = nI (e / 2) := pk_shrN (by omega) ((1 : Int32) &&& 31) 1 (by decide)
    have ean : nI e &&& 1 = nI (e % 2) := pk_andN (by omega) (m := 1) 1 (by decide)
    have hi12 : e / 2 < 12 := by omega
    have j29 : ∀ b : Bool, e = 2 * (e / 2) + sc_bn b → wX_staysAlive_29 post (wX_staysAlive_7 post (nI (sc_kS C)) (nI (sc_kH C)) (nI n) (nI m) (nI ac) kn ex (sc_rA (R 0)) (sc_rA (R 1)) (sc_rA (R 2)) (sc_rA (R 3)) (sc_rA (R 4)) (sc_rA (R 5)) (sc_rA (R 6)) (sc_rA (A 0)) (sc_rA (A 1)) (sc_rA (A 2)) dp qu av ot (d + 1)) (nI e) (sc_bI b) (nI (sc_kS C)) (nI (sc_kH C)) (nI n) (nI m) (nI ac) kn ex (sc_rA (R 0)) (sc_rA (R 1)) (sc_rA (R 2)) (sc_rA (R 3)) (sc_rA (R 4)) (sc_rA (R 5)) (sc_rA (R 6)) (sc_rA (A 0)) (sc_rA (A 1)) (sc_rA (A 2)) dp qu av ot := by
      intro b hb
      have nx : (sc_en R n C (e / 2) b → ¬ W (sc_af R n C (e / 2) b)) → wX_staysAlive_7 post (nI (sc_kS C)) (nI (sc_kH C)) (nI n) (nI m) (nI ac) kn ex (sc_rA (R 0)) (sc_rA (R 1)) (sc_rA (R 2)) (sc_rA (R 3)) (sc_rA (R 4)) (sc_rA (R 5)) (sc_rA (R 6)) (sc_rA (A 0)) (sc_rA (A 1)) (sc_rA (A 2)) dp qu av ot (d + 1) (nI (e + 1)) := by
        intro hnew
        refine ih (e + 1) (by omega) (fun i b' hlt hen => ?_)
        by_cases y : 2 * i + sc_bn b' < e
        · exact hno i b' y hen
        · have hbb : i = e / 2 ∧ b' = b := by
            cases b <;> cases b'
            · exact ⟨by show i = e / 2; have h1 : e = 2 * (e / 2) + 0 := hb; have h2 : ¬ 2 * i + 0 < e := y; have h3 : 2 * i + 0 < e + 1 := hlt; omega, rfl⟩
            · exfalso; have h1 : e = 2 * (e / 2) + 0 := hb; have h2 : ¬ 2 * i + 1 < e := y; have h3 : 2 * i + 1 < e + 1 := hlt; omega
            · exfalso; have h1 : e = 2 * (e / 2) + 1 := hb; have h2 : ¬ 2 * i + 0 < e := y; have h3 : 2 * i + 0 < e + 1 := hlt; omega
            · exact ⟨by show i = e / 2; have h1 : e = 2 * (e / 2) + 1 := hb; have h2 : ¬ 2 * i + 1 < e := y; have h3 : 2 * i + 1 < e + 1 := hlt; omega, rfl⟩
          rw [hbb.1, hbb.2] at hen ⊢
          exact hnew hen
      unfold wX_staysAlive_29
      rw [esh]
      refine sx_en b hi12 hn hR hk hL (fun hen => ?_) (fun hen => br_t rfl (nm_r (nI_1 e) (nx (fun z => absurd z hen))))
      refine br_f (by decide) ?_
      have hT : sc_T R n m C (sc_af R n C (e / 2) b) := ⟨e / 2, b, by omega, hen, rfl⟩
      have hlt : sc_af R n C (e / 2) b < 300 := by
        obtain ⟨c, h1, h2⟩ := hV
        rw [← h2] at hT ⊢
        obtain ⟨c', h3, _, h4⟩ := sc_SL hn hR h1 hT
        rw [← h4]; exact sc_cl_lt hn
      refine sx_af b hi12 hR hk hL hen ⟨pk_in (sc_af R n C (e / 2) b) 300 hlt, ?_⟩
      rw [nI_clamp (by omega), sc_WA_0 hW hlt]
      exact ⟨fun y => nm_r (nI_1 e) (nx (fun _ => y)), fun y => h1 ⟨_, hlt, hT, Classical.not_not.mp y⟩⟩
    refine br_f (by rw [e2m]; exact nI_ge (by omega) (by omega)) ?_
    refine pk_eq (e % 2) 1 (fun y => ?_) (fun y => ?_) ean
    · exact j29 true (by show e = 2 * (e / 2) + 1; omega)
    · exact j29 false (by show e = 2 * (e / 2) + 0; omega)
theorem sx_stays {post : Int32 → SX → Prop} {C : Nat} {W : Nat → Prop} (hm : m ≤ 12) (h1n : 1 ≤ n) (hn : n ≤ 4) (hR : sc_RO R) (hV : sc_Vd n C) (hW : sc_WA 300 W av)
    (h1 : sc_gX (sc_T R n m) 300 C W → ∀ sh ho ot, post 1 (sh, ho, (nI n), (nI m), (nI ac), kn, ex, (sc_rA (R 0)), (sc_rA (R 1)), (sc_rA (R 2)), (sc_rA (R 3)), (sc_rA (R 4)), (sc_rA (R 5)), (sc_rA (R 6)), (sc_rA (A 0)), (sc_rA (A 1)), (sc_rA (A 2)), dp, qu, av, ot)) (h0 : ¬ sc_gX (sc_T R n m) 300 C W → ∀ sh ho ot, post 0 (sh, ho, (nI n), (nI m), (nI ac), kn, ex, (sc_rA (R 0)), (sc_rA (R 1)), (sc_rA (R 2)), (sc_rA (R 3)), (sc_rA (R 4)), (sc_rA (R 5)), (sc_rA (R 6)), (sc_rA (A 0)), (sc_rA (A 1)), (sc_rA (A 2)), dp, qu, av, ot)) : wpX_staysAlive post (sh, ho, (nI n), (nI m), (nI ac), kn, ex, (sc_rA (R 0)), (sc_rA (R 1)), (sc_rA (R 2)), (sc_rA (R 3)), (sc_rA (R 4)), (sc_rA (R 5)), (sc_rA (R 6)), (sc_rA (A 0)), (sc_rA (A 1)), (sc_rA (A 2)), dp, qu, av, ot) (nI C) := by
  unfold wpX_staysAlive
  dsimp only
  refine sx_load h1n hn (sc_Vd_ok hn hV) (fun ot' hL => ?_)
  exact ⟨2 * m + 1, sx_sa7 hm hn hR hV hL hW (fun z => h1 z _ _ _) (fun z => h0 z _ _ _) (2 * m) 0 (by omega) (fun i b hlt => by omega)⟩
theorem sx_en120 {post : Int32 → SX → Prop} {W : Nat → Prop} (h1 : 1 ≤ n) (hn : n ≤ 4) (hX : sc_XA K q δ dp qu) (hQ : sc_Qd n K q δ) (hW : sc_WA 300 W av) (h : ∀ sh ho ot, post (nI (sc_wS n W q K)) (sh, ho, (nI n), (nI m), (nI ac), (nI K), ex, (sc_rA (R 0)), (sc_rA (R 1)), (sc_rA (R 2)), (sc_rA (R 3)), (sc_rA (R 4)), (sc_rA (R 5)), (sc_rA (R 6)), (sc_rA (A 0)), (sc_rA (A 1)), (sc_rA (A 2)), dp, qu, av, ot)) :
    ∀ d j sh ho ot, j + d = K → wX_endless_120 post (d + 1) (nI (sc_wS n W q j)) (nI j) sh ho (nI n) (nI m) (nI ac) (nI K) ex (sc_rA (R 0)) (sc_rA (R 1)) (sc_rA (R 2)) (sc_rA (R 3)) (sc_rA (R 4)) (sc_rA (R 5)) (sc_rA (R 6)) (sc_rA (A 0)) (sc_rA (A 1)) (sc_rA (A 2)) dp qu av ot := by
  have hK := hQ.2.1
  intro d
  induction d with
  | zero =>
    intro j sh ho ot hj
    have e : j = K := by omega
    subst e
    exact br_t (nI_le (Nat.le_refl _) (by omega)) (h sh ho ot)
  | succ d ih =>
    intro j sh ho ot hj
    have hv := hQ.2.2.1 j (by omega)
    have eq := sx_qa hX hQ (j := j) (by omega)
    have nx := fun sh ho ot' => ih (j + 1) sh ho ot' (by omega)
    refine br_f (nI_ge (by omega) (by omega)) ⟨pk_in j 300 (by omega), pk_in (q j) 300 hv.1 eq, ?_⟩
    rw [eq, nI_clamp (by omega), sc_WA_0 hW hv.1]
    refine ⟨fun y => nm_r (nI_1 j) ?_, fun y => ⟨pk_in j 300 (by omega), ?_⟩⟩
    · rw [sc_wS_f y] at nx
      exact nx _ _ _
    · rw [sc_wS_t (Classical.not_not.mp y)] at nx
      exact sx_size h1 hn (sc_Vd_ok hn hv.2.2.1) (fun ot' hL => nm_r (nI_add _ _) (nm_r (nI_1 j) (nx _ _ _)))
theorem sx_en52 {post : Int32 → SX → Prop} {J : Int32 → Int32 → Int32 → Int32 → Int32 → Int32 → Int32 → Int32 → (Nat → Int32) → (Nat → Int32) → (Nat → Int32) → (Nat → Int32) → (Nat → Int32) → (Nat → Int32) → (Nat → Int32) → (Nat → Int32) → (Nat → Int32) → (Nat → Int32) → (Nat → Int32) → (Nat → Int32) → (Nat → Int32) → (Nat → Int32) → Prop} {r : Nat} {W0 : Nat → Prop}
    (hm : m ≤ 12) (h1 : 1 ≤ n) (hn : n ≤ 4) (hR : sc_RO R) (hX : sc_XA K q δ dp qu) (hQ : sc_Qd n K q δ)
    (h : ∀ sh ho ot av W, sc_Gf (sc_T R n m) 300 (fun C => δ C ≠ 0) W → post (nI (sc_wS n W q K)) (sh, ho, (nI n), (nI m), (nI ac), (nI K), ex, (sc_rA (R 0)), (sc_rA (R 1)), (sc_rA (R 2)), (sc_rA (R 3)), (sc_rA (R 4)), (sc_rA (R 5)), (sc_rA (R 6)), (sc_rA (A 0)), (sc_rA (A 1)), (sc_rA (A 2)), dp, qu, av, ot))
    (hJ : ∀ sh ho ot av W, sc_EI (sc_T R n m) 300 (fun C => δ C ≠ 0) W → sc_WA 300 W av → sc_cW 300 W + 1 ≤ sc_cW 300 W0 → J (nI (r + 1)) sh ho (nI n) (nI m) (nI ac) (nI K) ex (sc_rA (R 0)) (sc_rA (R 1)) (sc_rA (R 2)) (sc_rA (R 3)) (sc_rA (R 4)) (sc_rA (R 5)) (sc_rA (R 6)) (sc_rA (A 0)) (sc_rA (A 1)) (sc_rA (A 2)) dp qu av ot) :
    ∀ d k z W sh ho ot av, k + d = K → sc_EI (sc_T R n m) 300 (fun C => δ C ≠ 0) W → sc_WA 300 W av → ((z = 0 ∧ W = W0 ∧ ∀ j, j < k → W (q j) → sc_gX (sc_T R n m) 300 (q j) W) ∨ (z = 1 ∧ sc_cW 300 W + 1 ≤ sc_cW 300 W0)) →
      wX_endless_52 post J (nI r) (d + 1) (nI z) (nI k) sh ho (nI n) (nI m) (nI ac) (nI K) ex (sc_rA (R 0)) (sc_rA (R 1)) (sc_rA (R 2)) (sc_rA (R 3)) (sc_rA (R 4)) (sc_rA (R 5)) (sc_rA (R 6)) (sc_rA (A 0)) (sc_rA (A 1)) (sc_rA (A 2)) dp qu av ot := by
  have hK := hQ.2.1
  intro d
  induction d with
  | zero =>
    intro k z W sh ho ot av hk hE hW hz
    have e : k = K := by omega
    subst e
    refine br_t (nI_le (Nat.le_refl _) (by omega)) ?_
    rcases hz with ⟨rfl, rfl, hz⟩ | ⟨rfl, hz⟩
    · have hG : sc_Gf (sc_T R n m) 300 (fun C => δ C ≠ 0) W := sc_EI_g hE (fun C hC hw => by
        obtain ⟨j, h2, h3⟩ := sc_Qd_in hQ hC (hE.1 C hC hw)
        rw [← h3] at hw ⊢
        exact hz j h2 hw)
      exact br_t rfl ⟨k + 1, sx_en120 h1 hn hX hQ hW (fun sh ho ot => h sh ho ot av W hG) k 0 sh ho ot (by omega)⟩
    · exact br_f (by decide) (nm_r (nI_1 r) (hJ sh ho ot av W hE hW hz))
  | succ d ih =>
    intro k z W sh ho ot av hk hE hW hz
    have hv := hQ.2.2.1 k (by omega)
    have eq := sx_qa hX hQ (j := k) (by omega)
    have step : (W (q k) → sc_gX (sc_T R n m) 300 (q k) W) → ((z = 0 ∧ W = W0 ∧ ∀ j, j < k + 1 → W (q j) → sc_gX (sc_T R n m) 300 (q j) W) ∨ (z = 1 ∧ sc_cW 300 W + 1 ≤ sc_cW 300 W0)) := by
      intro hs
      rcases hz with ⟨z1, z2, z3⟩ | hz
      · refine Or.inl ⟨z1, z2, fun j hj => ?_⟩
        by_cases y : j = k
        · rw [y]; exact hs
        · exact z3 j (by omega)
      · exact Or.inr hz
    refine br_f (nI_ge (by omega) (by omega)) ⟨pk_in k 300 (by omega), nm_r eq ⟨pk_in (q k) 300 hv.1, ?_⟩⟩
    rw [nI_clamp (by omega), sc_WA_0 hW hv.1]
    refine ⟨fun y => nm_r (nI_1 k) (ih (k + 1) z W sh ho ot av (by omega) hE hW (step (fun w => absurd w y))), fun y => ?_⟩
    have y' : W (q k) := Classical.not_not.mp y
    refine sx_stays hm h1 hn hR hv.2.2.1 hW (fun x sh ho ot => br_f (by decide) (nm_r (nI_1 k) (ih (k + 1) z W sh ho ot av (by omega) hE hW (step (fun _ => x))))) (fun x sh ho ot => br_t rfl ⟨pk_in (q k) 300 hv.1, nm_e (nm_r (nI_1 k) ?_)⟩)
    obtain ⟨a1, a2⟩ := sc_EI_r hE hv.1 y' x
    refine ih (k + 1) 1 (fun D => W D ∧ D ≠ q k) sh ho ot _ (by omega) a1 (fun D hD => ?_) (Or.inr ⟨rfl, ?_⟩)
    · rw [sc_vb0]
      by_cases w : D = q k
      · rw [w, pk_us, sc_b_f (fun v => v.2 rfl)]; rfl
      · rw [pk_un w, hW D hD]
        exact congrArg nI (sc_b_i ⟨fun v => ⟨v, w⟩, fun v => v.1⟩)
    · rcases hz with ⟨_, z2, _⟩ | ⟨_, z2⟩
      · rw [← z2]; omega
      · omega
theorem sx_en41 {post : Int32 → SX → Prop} (hm : m ≤ 12) (h1 : 1 ≤ n) (hn : n ≤ 4) (hR : sc_RO R) (hX : sc_XA K q δ dp qu) (hQ : sc_Qd n K q δ)
    (h : ∀ sh ho ot av W, sc_Gf (sc_T R n m) 300 (fun C => δ C ≠ 0) W → post (nI (sc_wS n W q K)) (sh, ho, (nI n), (nI m), (nI ac), (nI K), ex, (sc_rA (R 0)), (sc_rA (R 1)), (sc_rA (R 2)), (sc_rA (R 3)), (sc_rA (R 4)), (sc_rA (R 5)), (sc_rA (R 6)), (sc_rA (A 0)), (sc_rA (A 1)), (sc_rA (A 2)), dp, qu, av, ot)) :
    ∀ d r W sh ho ot av, r + d = 300 → sc_EI (sc_T R n m) 300 (fun C => δ C ≠ 0) W → sc_WA 300 W av → sc_cW 300 W + r ≤ 300 → wX_endless_41 post (d + 1) (nI r) sh ho (nI n) (nI m) (nI ac) (nI K) ex (sc_rA (R 0)) (sc_rA (R 1)) (sc_rA (R 2)) (sc_rA (R 3)) (sc_rA (R 4)) (sc_rA (R 5)) (sc_rA (R 6)) (sc_rA (A 0)) (sc_rA (A 1)) (sc_rA (A 2)) dp qu av ot := by
  intro d
  induction d with
  | zero =>
    intro r W sh ho ot av hr hE hW hc
    have e : r = 300 := by omega
    subst e
    have hG : sc_Gf (sc_T R n m) 300 (fun C => δ C ≠ 0) W := sc_EI_g hE (fun C hC hw => absurd hw (sc_cn_0 (P := W) (k := 300) (by unfold sc_cW at hc; omega) hC))
    exact br_t (nI_le (a := 300) (Nat.le_refl _) (by decide)) ⟨K + 1, sx_en120 h1 hn hX hQ hW (fun sh ho ot => h sh ho ot av W hG) K 0 sh ho ot (by omega)⟩
  | succ d ih =>
    intro r W sh ho ot av hr hE hW hc
    refine br_f (nI_ge (b := 300) (by omega) (by decide)) ⟨K + 1, ?_⟩
    exact sx_en52 (W0 := W) hm h1 hn hR hX hQ h (fun sh ho ot av W' a1 a2 a3 => ih (r + 1) W' sh ho ot av (by omega) a1 a2 (by omega)) K 0 0 W sh ho ot av (by omega) hE hW (Or.inl ⟨rfl, rfl, fun j hj => by omega⟩)
theorem sx_en6 {post : Int32 → SX → Prop} (hm : m ≤ 12) (h1 : 1 ≤ n) (hn : n ≤ 4) (hR : sc_RO R) (hX : sc_XA K q δ dp qu) (hQ : sc_Qd n K q δ) (hb : ∀ C, C < 300 → δ C ≤ 300)
    (h : ∀ sh ho ot av W, sc_Gf (sc_T R n m) 300 (fun C => δ C ≠ 0) W → post (nI (sc_wS n W q K)) (sh, ho, (nI n), (nI m), (nI ac), (nI K), ex, (sc_rA (R 0)), (sc_rA (R 1)), (sc_rA (R 2)), (sc_rA (R 3)), (sc_rA (R 4)), (sc_rA (R 5)), (sc_rA (R 6)), (sc_rA (A 0)), (sc_rA (A 1)), (sc_rA (A 2)), dp, qu, av, ot)) :
    ∀ d i av, i + d = 300 → sc_WA i (fun C => δ C ≠ 0) av → wX_endless_6 post sh ho (nI n) (nI m) (nI ac) (nI K) ex (d + 1) (nI i) (sc_rA (R 0)) (sc_rA (R 1)) (sc_rA (R 2)) (sc_rA (R 3)) (sc_rA (R 4)) (sc_rA (R 5)) (sc_rA (R 6)) (sc_rA (A 0)) (sc_rA (A 1)) (sc_rA (A 2)) dp qu av ot := by
  intro d
  induction d with
  | zero =>
    intro i av hi hW
    have e : i = 300 := by omega
    subst e
    refine br_t (nI_le (a := 300) (Nat.le_refl _) (by decide)) ⟨301, ?_⟩
    exact sx_en41 hm h1 hn hR hX hQ h 300 0 (fun C => δ C ≠ 0) sh ho ot av (by omega) ⟨fun C _ z => z, fun G hG C hC hGC => (hG C hC hGC).1⟩ hW (sc_cn_le _ _)
  | succ d ih =>
    intro i av hi hW
    have hbi := hb i (by omega)
    have i3 : vp_in (nI i) 300 := pk_in i 300 (by omega)
    have fill : ∀ v : Nat, v = sc_b (δ i ≠ 0) → sc_WA (i + 1) (fun C => δ C ≠ 0) (upd av (nI i).toNatClampNeg (nI v)) := by
      intro v hv C hC
      rw [nI_clamp (by omega)]
      by_cases w : C = i
      · rw [w, pk_us, hv]
      · rw [pk_un w]; exact hW C (by omega)
    refine br_f (nI_ge (b := 300) (by omega) (by decide)) ⟨i3, ?_⟩
    rw [nI_clamp (by omega), hX.1 i (by omega), sc_dI_lt (by omega)]
    refine ⟨fun y => ⟨i3, nm_e (nm_r (nI_1 i) ?_)⟩, fun y => ⟨i3, nm_e (nm_r (nI_1 i) ?_)⟩⟩
    · have f := fill 0 (sc_b_f (fun z => z y)).symm
      rw [nI_clamp (by omega)] at f
      rw [sc_vb0]
      exact ih (i + 1) _ (by omega) f
    · have f := fill 1 (sc_b_t y).symm
      rw [nI_clamp (by omega)] at f
      rw [sc_vb1]
      exact ih (i + 1) _ (by omega) f
theorem sx_endless {post : Int32 → SX → Prop} (hm : m ≤ 12) (h1 : 1 ≤ n) (hn : n ≤ 4) (hR : sc_RO R) (he : ex = 0 ∨ (ex = 1 ∧ sc_XR R n m kn dp qu))
    (h : ∀ sh ho ot av K q δ dp qu W, sc_XA K q δ dp qu → sc_Qd n K q δ → sc_Dt (sc_T R n m) 300 75 δ → sc_Gf (sc_T R n m) 300 (fun C => δ C ≠ 0) W → post (nI (sc_wS n W q K)) (sh, ho, (nI n), (nI m), (nI ac), (nI K), 1, (sc_rA (R 0)), (sc_rA (R 1)), (sc_rA (R 2)), (sc_rA (R 3)), (sc_rA (R 4)), (sc_rA (R 5)), (sc_rA (R 6)), (sc_rA (A 0)), (sc_rA (A 1)), (sc_rA (A 2)), dp, qu, av, ot)) : wpX_endless post (sh, ho, (nI n), (nI m), (nI ac), kn, ex, (sc_rA (R 0)), (sc_rA (R 1)), (sc_rA (R 2)), (sc_rA (R 3)), (sc_rA (R 4)), (sc_rA (R 5)), (sc_rA (R 6)), (sc_rA (A 0)), (sc_rA (A 1)), (sc_rA (A 2)), dp, qu, av, ot) := by
  unfold wpX_endless
  dsimp only
  refine sx_explore hm h1 hn hR he (fun sh ho ot kn dp qu hXR => ?_)
  obtain ⟨K, q, δ, rfl, hX, hQ, hD⟩ := hXR
  have hb : ∀ C, C < 300 → δ C ≤ 300 := by
    intro C hC
    by_cases z : δ C = 0
    · omega
    · obtain ⟨j, h7, h8⟩ := sc_Qd_in hQ hC z
      have a1 := (hQ.2.2.1 j h7).2.2.2
      have a2 := hQ.2.1
      rw [h8] at a1
      omega
  exact ⟨301, sx_en6 hm h1 hn hR hX hQ hb (fun sh ho ot av W hG => h sh ho ot av K q δ dp qu W hX hQ hD hG) 300 0 av (by omega) (fun C hC => by omega)⟩
end XE
section YE
variable {n m ac : Nat} {R A : Nat → Nat → Nat} {pw dY wY lY : Nat → Int32} {δ : Nat → Nat}
theorem sc_nb {P Q : Prop} : nI (sc_b P) = nI (sc_b Q) ↔ (P ↔ Q) := by
  have h1 := sc_b_le P
  have h2 := sc_b_le Q
  rw [nI_eq (by omega) (by omega)]
  rcases sc_b_c P with ⟨a, e⟩ | ⟨a, e⟩ <;> rcases sc_b_c Q with ⟨b, f⟩ | ⟨b, f⟩ <;> rw [e, f]
  · exact ⟨fun _ => ⟨fun _ => b, fun _ => a⟩, fun _ => rfl⟩
  · exact ⟨fun z => by omega, fun z => absurd (z.mp a) b⟩
  · exact ⟨fun z => by omega, fun z => absurd (z.mpr b) a⟩
  · exact ⟨fun _ => ⟨fun z => absurd z a, fun z => absurd z b⟩, fun _ => rfl⟩
theorem sc_vbb (P : Prop) : vp_nar .boolean (nI (sc_b P)) = nI (sc_b P) := by
  rcases sc_b_c P with ⟨a, e⟩ | ⟨a, e⟩ <;> rw [e]
  · exact sc_vb1
  · exact sc_vb0
theorem sy_len55 {post : Int32 → SY → Prop} {W L : Nat → Prop} (hn : n ≤ 4) (hLW : ∀ c, L c → W c) (hl' : sc_WA (sc_lm n) L lY)
    (h : ∀ z wY, sc_WA (sc_lm n) L wY → ((z = 0 ∧ ∀ c, c < sc_lm n → (L c ↔ W c)) ∨ (z = 1 ∧ sc_cW (sc_lm n) L + 1 ≤ sc_cW (sc_lm n) W)) → post (nI z) ((nI n), (nI (sc_lm n)), (nI m), (nI ac), pw, (sc_rA (R 0)), (sc_rA (R 1)), (sc_rA (R 2)), (sc_rA (R 3)), (sc_rA (R 4)), (sc_rA (R 5)), (sc_rA (R 6)), (sc_rA (A 0)), (sc_rA (A 1)), (sc_rA (A 2)), dY, wY, lY)) :
    ∀ d k z wY, k + d = sc_lm n → sc_WA k L wY → (∀ c, k ≤ c → c < sc_lm n → wY c = nI (sc_b (W c))) → ((z = 0 ∧ ∀ c, c < k → (L c ↔ W c)) ∨ (z = 1 ∧ sc_cW k L + 1 ≤ sc_cW k W)) →
      wY_lengthen_55 post (nI n) (nI (sc_lm n)) (nI m) (nI ac) (d + 1) (nI z) (nI k) pw (sc_rA (R 0)) (sc_rA (R 1)) (sc_rA (R 2)) (sc_rA (R 3)) (sc_rA (R 4)) (sc_rA (R 5)) (sc_rA (R 6)) (sc_rA (A 0)) (sc_rA (A 1)) (sc_rA (A 2)) dY wY lY := by
  have hl := sc_lm_le hn
  intro d
  induction d with
  | zero =>
    intro k z wY hk hw1 hw2 hz
    have e : k = sc_lm n := by omega
    subst e
    refine br_t (nI_le (Nat.le_refl _) (by omega)) ⟨?_, h z wY hw1 hz⟩
    rcases hz with ⟨rfl, _⟩ | ⟨rfl, _⟩
    · rfl
    · rfl
  | succ d ih =>
    intro k z wY hk hw1 hw2 hz
    have i12 : vp_in (nI k) 1215 := pk_in k 1215 (by omega)
    have cl : (nI k).toNatClampNeg = k := nI_clamp (by omega)
    have el : lY k = nI (sc_b (L k)) := hl' k (by omega)
    have ew : wY k = nI (sc_b (W k)) := hw2 k (Nat.le_refl _) (by omega)
    have j87 : ∀ z', ((z' = 0 ∧ ∀ c, c < k + 1 → (L c ↔ W c)) ∨ (z' = 1 ∧ sc_cW (k + 1) L + 1 ≤ sc_cW (k + 1) W)) → wY_lengthen_87 post (wY_lengthen_55 post (nI n) (nI (sc_lm n)) (nI m) (nI ac) (d + 1)) (nI z') (nI k) (nI n) (nI (sc_lm n)) (nI m) (nI ac) pw (sc_rA (R 0)) (sc_rA (R 1)) (sc_rA (R 2)) (sc_rA (R 3)) (sc_rA (R 4)) (sc_rA (R 5)) (sc_rA (R 6)) (sc_rA (A 0)) (sc_rA (A 1)) (sc_rA (A 2)) dY wY lY := by
      intro z' hz'
      refine ⟨i12, i12, nm_r (e' := upd wY k (nI (sc_b (L k)))) (by rw [cl, el, sc_vbb]) (nm_r (nI_1 k) ?_)⟩
      refine ih (k + 1) z' _ (by omega) (fun c hc => ?_) (fun c h1 h2 => ?_) hz'
      · by_cases y : c = k
        · rw [y, pk_us]
        · rw [pk_un y]; exact hw1 c (by omega)
      · rw [pk_un (by omega)]; exact hw2 c (by omega) h2
    have s1 : sc_cW (k + 1) L = sc_cW k L + sc_b (L k) := rfl
    have s2 : sc_cW (k + 1) W = sc_cW k W + sc_b (W k) := rfl
    refine br_f (nI_ge (by omega) (by omega)) (br_f (nI_ge (b := 1215) (by omega) (by decide)) ⟨i12, i12, ?_⟩)
    rw [cl, el, ew, sc_nb]
    refine ⟨fun y => j87 z ?_, fun y => j87 1 (Or.inr ⟨rfl, ?_⟩)⟩
    · rcases hz with ⟨z1, z2⟩ | ⟨z1, z2⟩
      · refine Or.inl ⟨z1, fun c hc => ?_⟩
        by_cases x : c = k
        · rw [x]; exact y
        · exact z2 c (by omega)
      · refine Or.inr ⟨z1, ?_⟩
        rw [s1, s2, sc_b_i y]; omega
    · have nl : ¬ L k := fun x => y ⟨fun _ => hLW k x, fun _ => x⟩
      have yw : W k := Classical.byContradiction (fun x => y ⟨fun v => absurd v nl, fun v => absurd v x⟩)
      have le : sc_cW k L ≤ sc_cW k W := sc_sm_le k (fun c _ => by
        show sc_b (L c) ≤ sc_b (W c)
        rcases sc_b_c (L c) with ⟨a, e⟩ | ⟨a, e⟩
        · rw [e, sc_b_t (hLW c a)]; exact Nat.le_refl _
        · rw [e]; exact Nat.zero_le _)
      rw [s1, s2, sc_b_f nl, sc_b_t yw]; omega
theorem sy_len4 {post : Int32 → SY → Prop} {W : Nat → Prop} (hm : m ≤ 12) (hP : sc_PW pw) (hn : n ≤ 4) (hR : sc_RO R) (hW : sc_WA (sc_lm n) W wY)
    (h : ∀ z wY lY, sc_WA (sc_lm n) (fun c => W c ∧ sc_go R n m c W) wY → ((z = 0 ∧ ∀ c, c < sc_lm n → ((W c ∧ sc_go R n m c W) ↔ W c)) ∨ (z = 1 ∧ sc_cW (sc_lm n) (fun c => W c ∧ sc_go R n m c W) + 1 ≤ sc_cW (sc_lm n) W)) → post (nI z) ((nI n), (nI (sc_lm n)), (nI m), (nI ac), pw, (sc_rA (R 0)), (sc_rA (R 1)), (sc_rA (R 2)), (sc_rA (R 3)), (sc_rA (R 4)), (sc_rA (R 5)), (sc_rA (R 6)), (sc_rA (A 0)), (sc_rA (A 1)), (sc_rA (A 2)), dY, wY, lY)) :
    ∀ d k lY, k + d = sc_lm n → sc_WA k (fun c => W c ∧ sc_go R n m c W) lY → wY_lengthen_4 post 0 (nI n) (nI (sc_lm n)) (nI m) (nI ac) (d + 1) (nI k) pw (sc_rA (R 0)) (sc_rA (R 1)) (sc_rA (R 2)) (sc_rA (R 3)) (sc_rA (R 4)) (sc_rA (R 5)) (sc_rA (R 6)) (sc_rA (A 0)) (sc_rA (A 1)) (sc_rA (A 2)) dY wY lY := by
  have hl := sc_lm_le hn
  intro d
  induction d with
  | zero =>
    intro k lY hk hL
    have e : k = sc_lm n := by omega
    rw [e] at hL
    refine br_t (by rw [e]; exact nI_le (Nat.le_refl _) (by omega)) ⟨sc_lm n + 1, ?_⟩
    exact sy_len55 (W := W) (L := fun c => W c ∧ sc_go R n m c W) hn (fun c z => z.1) hL (fun z wY a1 a2 => h z wY lY a1 a2) (sc_lm n) 0 0 wY (by omega) (fun c hc => by omega) (fun c _ hc => hW c hc) (Or.inl ⟨rfl, fun c hc => by omega⟩)
  | succ d ih =>
    intro k lY hk hL
    have i12 : vp_in (nI k) 1215 := pk_in k 1215 (by omega)
    have cl : (nI k).toNatClampNeg = k := nI_clamp (by omega)
    have fill : ∀ v : Nat, v = sc_b (W k ∧ sc_go R n m k W) → sc_WA (k + 1) (fun c => W c ∧ sc_go R n m c W) (upd lY k (nI v)) := by
      intro v hv c hc
      by_cases w : c = k
      · rw [w, pk_us, hv]
      · rw [pk_un w]; exact hL c (by omega)
    refine br_f (nI_ge (by omega) (by omega)) (br_f (nI_ge (b := 1215) (by omega) (by decide)) ⟨i12, ?_⟩)
    rw [cl, sc_WA_0 hW (by omega), sc_vb0, sc_vb1]
    refine ⟨fun y => ⟨i12, nm_e (nm_r (nI_1 k) (ih (k + 1) _ (by omega) (fill 0 (sc_b_f (fun z => y z.1)).symm)))⟩, fun y => ?_⟩
    have y' : W k := Classical.not_not.mp y
    refine sy_goesOn hm hP hn hR (by omega) hW (fun z => br_f (by decide) ⟨i12, nm_e (nm_r (nI_1 k) (ih (k + 1) _ (by omega) (fill 1 (sc_b_t ⟨y', z⟩).symm)))⟩) (fun z => br_t rfl ⟨i12, nm_e (nm_r (nI_1 k) (ih (k + 1) _ (by omega) (fill 0 (sc_b_f (fun w => z w.2)).symm)))⟩)
theorem sy_len {post : Int32 → SY → Prop} {W : Nat → Prop} (hm : m ≤ 12) (hP : sc_PW pw) (hn : n ≤ 4) (hR : sc_RO R) (hW : sc_WA (sc_lm n) W wY)
    (h : ∀ z wY lY, sc_WA (sc_lm n) (fun c => W c ∧ sc_go R n m c W) wY → ((z = 0 ∧ ∀ c, c < sc_lm n → ((W c ∧ sc_go R n m c W) ↔ W c)) ∨ (z = 1 ∧ sc_cW (sc_lm n) (fun c => W c ∧ sc_go R n m c W) + 1 ≤ sc_cW (sc_lm n) W)) → post (nI z) ((nI n), (nI (sc_lm n)), (nI m), (nI ac), pw, (sc_rA (R 0)), (sc_rA (R 1)), (sc_rA (R 2)), (sc_rA (R 3)), (sc_rA (R 4)), (sc_rA (R 5)), (sc_rA (R 6)), (sc_rA (A 0)), (sc_rA (A 1)), (sc_rA (A 2)), dY, wY, lY)) : wpY_lengthen post ((nI n), (nI (sc_lm n)), (nI m), (nI ac), pw, (sc_rA (R 0)), (sc_rA (R 1)), (sc_rA (R 2)), (sc_rA (R 3)), (sc_rA (R 4)), (sc_rA (R 5)), (sc_rA (R 6)), (sc_rA (A 0)), (sc_rA (A 1)), (sc_rA (A 2)), dY, wY, lY) :=
  ⟨sc_lm n + 1, sy_len4 hm hP hn hR hW h (sc_lm n) 0 lY (by omega) (fun c hc => by omega)⟩
theorem sy_en69 {post : Int32 → SY → Prop} {W : Nat → Prop} (hn : n ≤ 4) (hW : sc_WA (sc_lm n) W wY) (h : post (nI (sc_cN W (sc_lm n))) ((nI n), (nI (sc_lm n)), (nI m), (nI ac), pw, (sc_rA (R 0)), (sc_rA (R 1)), (sc_rA (R 2)), (sc_rA (R 3)), (sc_rA (R 4)), (sc_rA (R 5)), (sc_rA (R 6)), (sc_rA (A 0)), (sc_rA (A 1)), (sc_rA (A 2)), dY, wY, lY)) :
    ∀ d c, c + d = sc_lm n → wY_endless_69 post (nI n) (nI (sc_lm n)) (nI m) (nI ac) pw (sc_rA (R 0)) (sc_rA (R 1)) (sc_rA (R 2)) (sc_rA (R 3)) (sc_rA (R 4)) (sc_rA (R 5)) (sc_rA (R 6)) (sc_rA (A 0)) (sc_rA (A 1)) (sc_rA (A 2)) dY wY lY (d + 1) (nI (sc_cN W c)) (nI c) := by
  have hl := sc_lm_le hn
  intro d
  induction d with
  | zero =>
    intro c hc
    have e : c = sc_lm n := by omega
    subst e
    exact br_t (nI_le (Nat.le_refl _) (by omega)) h
  | succ d ih =>
    intro c hc
    have nx := ih (c + 1) (by omega)
    refine br_f (nI_ge (by omega) (by omega)) (br_f (nI_ge (b := 1215) (by omega) (by decide)) ⟨pk_in c 1215 (by omega), ?_⟩)
    rw [nI_clamp (by omega), sc_WA_0 hW (by omega)]
    refine ⟨fun y => nm_r (nI_1 c) ?_, fun y => nm_r (nI_1 _) (nm_r (nI_1 c) ?_)⟩
    · rw [sc_cN_f y] at nx; exact nx
    · rw [sc_cN_t (Classical.not_not.mp y)] at nx; exact nx
theorem sy_en43 {post : Int32 → SY → Prop} (hm : m ≤ 12) (hP : sc_PW pw) (hn : n ≤ 4) (hR : sc_RO R)
    (h : ∀ wY lY W, sc_Gf (sc_S R n m) (sc_lm n) (fun c => δ c ≠ 0) W → post (nI (sc_cN W (sc_lm n))) ((nI n), (nI (sc_lm n)), (nI m), (nI ac), pw, (sc_rA (R 0)), (sc_rA (R 1)), (sc_rA (R 2)), (sc_rA (R 3)), (sc_rA (R 4)), (sc_rA (R 5)), (sc_rA (R 6)), (sc_rA (A 0)), (sc_rA (A 1)), (sc_rA (A 2)), dY, wY, lY)) :
    ∀ d k z W wY lY, k + d = 1216 → sc_WA (sc_lm n) W wY → sc_EI (sc_S R n m) (sc_lm n) (fun c => δ c ≠ 0) W → ((z = 0 ∧ sc_Gf (sc_S R n m) (sc_lm n) (fun c => δ c ≠ 0) W) ∨ (z = 1 ∧ sc_cW (sc_lm n) W + k ≤ sc_lm n)) → wY_endless_43 post (d + 1) (nI z) (nI k) (nI n) (nI (sc_lm n)) (nI m) (nI ac) pw (sc_rA (R 0)) (sc_rA (R 1)) (sc_rA (R 2)) (sc_rA (R 3)) (sc_rA (R 4)) (sc_rA (R 5)) (sc_rA (R 6)) (sc_rA (A 0)) (sc_rA (A 1)) (sc_rA (A 2)) dY wY lY := by
  have hl := sc_lm_le hn
  intro d
  induction d with
  | zero =>
    intro k z W wY lY hk hW hE hz
    have e : k = 1216 := by omega
    subst e
    rcases hz with ⟨rfl, hz⟩ | ⟨rfl, hz⟩
    · exact br_t (nI_le (a := 1216) (Nat.le_refl _) (by decide)) ⟨sc_lm n + 1, sy_en69 hn hW (h wY lY W hz) (sc_lm n) 0 (by omega)⟩
    · omega
  | succ d ih =>
    intro k z W wY lY hk hW hE hz
    refine br_f (nI_ge (b := 1216) (by omega) (by decide)) ?_
    rcases hz with ⟨rfl, hz⟩ | ⟨rfl, hz⟩
    · exact br_t rfl ⟨sc_lm n + 1, sy_en69 hn hW (h wY lY W hz) (sc_lm n) 0 (by omega)⟩
    · refine br_f (by decide) ?_
      refine sy_len hm hP hn hR hW (fun z' wY lY a1 a2 => nm_r (nI_1 k) ?_)
      have hE' : sc_EI (sc_S R n m) (sc_lm n) (fun c => δ c ≠ 0) (fun c => W c ∧ sc_go R n m c W) := by
        refine ⟨fun c hc w => hE.1 c hc w.1, fun G hG c hc hGc => ⟨hE.2 G hG c hc hGc, ?_⟩⟩
        obtain ⟨_, c', b1, b2, b3⟩ := hG c hc hGc
        exact ⟨c', b1, b2, hE.2 G hG c' b1 b3⟩
      refine ih (k + 1) z' _ wY lY (by omega) a1 hE' ?_
      rcases a2 with ⟨b1, b2⟩ | ⟨b1, b2⟩
      · refine Or.inl ⟨b1, sc_EI_g hE' (fun c hc w => ?_)⟩
        obtain ⟨c', d1, d2, d3⟩ := w.2
        exact ⟨c', d1, d2, (b2 c' d1).mpr d3⟩
      · exact Or.inr ⟨b1, by omega⟩
theorem sy_en6 {post : Int32 → SY → Prop} (hm : m ≤ 12) (hP : sc_PW pw) (hn : n ≤ 4) (hR : sc_RO R) (hX : sc_YA n δ dY) (hb : ∀ c, c < sc_lm n → δ c ≤ 2000)
    (h : ∀ wY lY W, sc_Gf (sc_S R n m) (sc_lm n) (fun c => δ c ≠ 0) W → post (nI (sc_cN W (sc_lm n))) ((nI n), (nI (sc_lm n)), (nI m), (nI ac), pw, (sc_rA (R 0)), (sc_rA (R 1)), (sc_rA (R 2)), (sc_rA (R 3)), (sc_rA (R 4)), (sc_rA (R 5)), (sc_rA (R 6)), (sc_rA (A 0)), (sc_rA (A 1)), (sc_rA (A 2)), dY, wY, lY)) :
    ∀ d i wY, i + d = 1215 → (∀ c, c < i → c < sc_lm n → wY c = nI (sc_b (δ c ≠ 0))) → wY_endless_6 post (nI n) (nI (sc_lm n)) (nI m) (nI ac) (d + 1) (nI i) pw (sc_rA (R 0)) (sc_rA (R 1)) (sc_rA (R 2)) (sc_rA (R 3)) (sc_rA (R 4)) (sc_rA (R 5)) (sc_rA (R 6)) (sc_rA (A 0)) (sc_rA (A 1)) (sc_rA (A 2)) dY wY lY := by
  have hl := sc_lm_le hn
  intro d
  induction d with
  | zero =>
    intro i wY hi hW
    have e : i = 1215 := by omega
    subst e
    refine br_t (nI_le (a := 1215) (Nat.le_refl _) (by decide)) ⟨1217, ?_⟩
    refine sy_en43 hm hP hn hR h 1216 0 1 (fun c => δ c ≠ 0) wY lY (by omega) (fun c hc => hW c (by omega) hc) ⟨fun C _ z => z, fun G hG C hC hGC => (hG C hC hGC).1⟩ (Or.inr ⟨rfl, ?_⟩)
    exact sc_cn_le _ _
  | succ d ih =>
    intro i wY hi hW
    have i12 : vp_in (nI i) 1215 := pk_in i 1215 (by omega)
    have cl : (nI i).toNatClampNeg = i := nI_clamp (by omega)
    refine br_f (nI_ge (b := 1215) (by omega) (by decide)) ⟨i12, ?_⟩
    rw [cl, sc_vb0, sc_vb1]
    refine ⟨fun y => ⟨i12, nm_e (nm_r (nI_1 i) (ih (i + 1) _ (by omega) (fun c hc hcl => ?_)))⟩, fun y => ⟨i12, nm_e (nm_r (nI_1 i) (ih (i + 1) _ (by omega) (fun c hc hcl => ?_)))⟩⟩
    · by_cases w : c = i
      · rw [w] at hcl ⊢
        have hbi := hb i hcl
        rw [hX i hcl, sc_dI_lt (by omega)] at y
        rw [pk_us, sc_b_f (fun z => z y)]; rfl
      · rw [pk_un w]; exact hW c (by omega) hcl
    · by_cases w : c = i
      · rw [w] at hcl ⊢
        have hbi := hb i hcl
        rw [hX i hcl, sc_dI_lt (by omega)] at y
        rw [pk_us, sc_b_t y]; rfl
      · rw [pk_un w]; exact hW c (by omega) hcl
theorem sy_endless {post : Int32 → SY → Prop} (hm : m ≤ 12) (hP : sc_PW pw) (hn : n ≤ 4) (hR : sc_RO R)
    (h : ∀ dY wY lY δ W, sc_Dt (sc_S R n m) (sc_lm n) (sc_st n) δ → sc_Gf (sc_S R n m) (sc_lm n) (fun c => δ c ≠ 0) W → post (nI (sc_cN W (sc_lm n))) ((nI n), (nI (sc_lm n)), (nI m), (nI ac), pw, (sc_rA (R 0)), (sc_rA (R 1)), (sc_rA (R 2)), (sc_rA (R 3)), (sc_rA (R 4)), (sc_rA (R 5)), (sc_rA (R 6)), (sc_rA (A 0)), (sc_rA (A 1)), (sc_rA (A 2)), dY, wY, lY)) : wpY_endless post ((nI n), (nI (sc_lm n)), (nI m), (nI ac), pw, (sc_rA (R 0)), (sc_rA (R 1)), (sc_rA (R 2)), (sc_rA (R 3)), (sc_rA (R 4)), (sc_rA (R 5)), (sc_rA (R 6)), (sc_rA (A 0)), (sc_rA (A 1)), (sc_rA (A 2)), dY, wY, lY) := by
  unfold wpY_endless
  dsimp only
  refine sy_explore hm hP hn hR (fun dY hYR => ?_)
  obtain ⟨δ, hX, hD, hb⟩ := hYR
  exact ⟨1216, sy_en6 hm hP hn hR hX hb (fun wY lY W hG => h dY wY lY δ W hD hG) 1215 0 wY (by omega) (fun c hc => by omega)⟩
end YE
theorem i_vc_endless {k : Nat} {u : SX} {v : SY} (I : i_Rel k u v) (hk : k + 5 ≤ 2561) : wpX_endless (fun r u' => wpY_endless (fun r' v' => r' = r ∧ i_Rel (k + 5) u' v') v) u := by
  refine sc_el (P := fun u v => wpX_endless (fun r u' => wpY_endless (fun r' v' => r' = r ∧ i_Rel (k + 5) u' v') v) u) ?_ I
  intro n m ac R A sh ho kn ex dp qu av ot pw dY wY lY g
  obtain ⟨g1, g2, g3, g4, g5, g6, g7, g8⟩ := id g
  refine sx_endless g3 g1 g2 g5 g8 (fun sh ho ot av K q δx dp qu Wx hX hQ hDx hGx => ?_)
  refine sy_endless g3 g7 g2 g5 (fun dY wY lY δy Wy hDy hGy => ?_)
  have hd : ∀ c, c < sc_lm n → δy c = δx (sc_cl n c) := fun c hc => sc_un g2 g5 hDy hDx (sc_Qd_v hQ) hc
  refine ⟨congrArg nI (Eq.trans ?_ (sc_tot g1 g2 hQ hd Wx).symm), sc_mkR (sc_G_ex g hX hQ hDx)⟩
  refine sc_sm_c _ (fun c hc => sc_b_i ?_)
  have e := sc_gf g2 g5 hd hGy hGx hc
  exact ⟨fun z => ⟨(hGy.1 c hc z).1, e.mp z⟩, fun z => e.mpr z.2⟩
end
