section
/-! pure rows to paste: stores, nI and lN arithmetic, masks, shifts, narrowing, branches by naturals (pk_le, pk_lt, pk_eq), loops (lp1 .. lp16: the measure of the state; rp1 ..: recursion), negatives. Take what you need -/
theorem pk_us {f : Nat → Int32} {k : Nat} {x : Int32} : upd f k x k = x := if_pos rfl
theorem pk_un {f : Nat → Int32} {k j : Nat} {x : Int32} (h : j ≠ k) : upd f k x j = f j := if_neg h
theorem pk_sub {a b : Nat} (h : b ≤ a) : nI a - nI b = nI (a - b) := by
  obtain ⟨c, rfl⟩ : ∃ c, a = c + b := ⟨a - b, by omega⟩
  rw [← nI_add, Int32.add_sub_cancel, Nat.add_sub_cancel]
theorem pk_m1 (n : Nat) : nI (n + 1) + (-1) = nI n := by
  rw [← nI_1, Int32.add_assoc, show (1 : Int32) + (-1) = 0 from rfl, Int32.add_zero]
theorem pk_mul (a b : Nat) : nI a * nI b = nI (a * b) := (Int32.ofNat_mul a b).symm
theorem pk_div {a d : Nat} (ha : a < 2 ^ 31) (h0 : 0 < d) (hd : d < 2 ^ 31) : nI a / nI d = nI (a / d) := by
  apply Int32.toInt_inj.mp
  rw [lg_idiv_nonneg (by rw [nI_toInt ha]; omega) (by rw [nI_toInt hd]; omega), nI_toInt ha, nI_toInt hd, nI_toInt (Nat.lt_of_le_of_lt (Nat.div_le_self a d) ha)]
  first | rfl | exact (Int.natCast_ediv _ _).symm
theorem pk_rem {a d : Nat} (ha : a < 2 ^ 31) (h0 : 0 < d) (hd : d < 2 ^ 31) : nI a - nI a / nI d * nI d = nI (a % d) := by
  rw [pk_div ha h0 hd, pk_mul, pk_sub (Nat.div_mul_le_self a d)]
  exact congrArg nI (by have := Nat.div_add_mod' a d; omega)
theorem pk_sub_toInt {a b : Nat} (ha : a < 2 ^ 30) (hb : b < 2 ^ 30) : (nI a - nI b).toInt = (a : Int) - b := by
  rw [Int32.toInt_sub, nI_toInt (by omega), nI_toInt (by omega)]
  exact Int.bmod_eq_of_le (by omega) (by omega)
theorem pk_sneg {a b : Nat} (hb : b < 2 ^ 30) (h : a < b) : nI a - nI b < 0 := by
  rw [Int32.lt_iff_toInt_lt, pk_sub_toInt (by omega) hb, show (0 : Int32).toInt = 0 from by decide]
  omega
theorem pk_ix (x : Int32) {n : Nat} (hn : n < 2 ^ 31) : x < 0 ∨ nI n ≤ x ∨ ∃ j : Nat, j < n ∧ x = nI j := by
  by_cases h : x < 0
  · exact Or.inl h
  · obtain ⟨j, hj, rfl⟩ := nI_of h
    by_cases h2 : j < n
    · exact Or.inr (Or.inr ⟨j, h2, rfl⟩)
    · exact Or.inr (Or.inl (nI_le (by omega) hj))
theorem pk_le {x y : Int32} {A B : Prop} (a b : Nat) (f : a ≤ b → A) (g : b < a → B) (hx : x = nI a := by rfl) (hy : y = nI b := by rfl) (ha : a < 2 ^ 31 := by omega) (hb : b < 2 ^ 31 := by omega) : (x ≤ y → A) ∧ (¬ x ≤ y → B) := by
  subst hx hy
  rw [nI_leI ha hb]
  exact ⟨f, fun z => g (by omega)⟩
theorem pk_lt {x y : Int32} {A B : Prop} (a b : Nat) (f : a < b → A) (g : b ≤ a → B) (hx : x = nI a := by rfl) (hy : y = nI b := by rfl) (ha : a < 2 ^ 31 := by omega) (hb : b < 2 ^ 31 := by omega) : (x < y → A) ∧ (¬ x < y → B) := by
  subst hx hy
  rw [nI_ltI ha hb]
  exact ⟨f, fun z => g (by omega)⟩
theorem pk_eq {x y : Int32} {A B : Prop} (a b : Nat) (f : a = b → A) (g : a ≠ b → B) (hx : x = nI a := by rfl) (hy : y = nI b := by rfl) (ha : a < 2 ^ 31 := by omega) (hb : b < 2 ^ 31 := by omega) : (x = y → A) ∧ (¬ x = y → B) := by
  subst hx hy
  rw [nI_eq ha hb]
  exact ⟨f, g⟩
theorem pk_in {x : Int32} (n N : Nat) (h : n < N) (hx : x = nI n := by rfl) (hN : N < 2 ^ 31 := by omega) : vp_in x N := by
  subst hx
  exact vp_in_nI h hN
theorem pk_cl {x : Int32} (n : Nat) (hx : x = nI n := by rfl) (h : n < 2 ^ 31 := by omega) : x.toNatClampNeg = n := by
  subst hx
  exact nI_clamp h
theorem pk_tn {n : Nat} (h : n < 2 ^ 32) : (nI n).toBitVec.toNat = n := Nat.mod_eq_of_lt h
theorem pk_and (x : Int32) {m : Int32} (k : Nat) (hm : m.toBitVec.toNat = 2 ^ k - 1) : x &&& m = nI (x.toBitVec.toNat % 2 ^ k) := by
  apply Int32.toBitVec_inj.mp
  apply BitVec.eq_of_toNat_eq
  rw [Int32.toBitVec_and, BitVec.toNat_and, hm, Nat.and_two_pow_sub_one_eq_mod]
  show _ = (BitVec.ofNat 32 _).toNat
  rw [BitVec.toNat_ofNat]
  exact (Nat.mod_eq_of_lt (Nat.lt_of_le_of_lt (Nat.mod_le _ _) x.toBitVec.isLt)).symm
theorem pk_andN {n : Nat} (h : n < 2 ^ 32) {m : Int32} (k : Nat) (hm : m.toBitVec.toNat = 2 ^ k - 1) : nI n &&& m = nI (n % 2 ^ k) := by
  rw [pk_and _ k hm, pk_tn h]
theorem pk_andE (x : Int32) {m : Int32} (k : Nat) (hm : m.toBitVec.toNat = 2 ^ k - 1) : ∃ j : Nat, j < 2 ^ k ∧ x &&& m = nI j := ⟨_, Nat.mod_lt _ (Nat.two_pow_pos k), pk_and x k hm⟩
theorem pk_andIn (x : Int32) {m : Int32} (k : Nat) (hm : m.toBitVec.toNat = 2 ^ k - 1) (hk : k ≤ 30) : vp_in (x &&& m) (2 ^ k) := by
  obtain ⟨j, hj, e⟩ := pk_andE x k hm
  rw [e]
  exact vp_in_nI hj (Nat.lt_of_le_of_lt (Nat.pow_le_pow_right (by decide) hk) (by decide))
theorem pk_shl (a s : Int32) (k : Nat) (hs : (s.toBitVec.smod 32).toNat = k) : (a <<< s).toBitVec.toNat = a.toBitVec.toNat * 2 ^ k % 2 ^ 32 := by
  show (a.toBitVec <<< (s.toBitVec.smod 32).toNat).toNat = _
  rw [hs, BitVec.toNat_shiftLeft, Nat.shiftLeft_eq]
theorem pk_shlN {n : Nat} (s : Int32) (k : Nat) (hs : (s.toBitVec.smod 32).toNat = k) (h : n * 2 ^ k < 2 ^ 32) : nI n <<< s = nI (n * 2 ^ k) := by
  apply Int32.toBitVec_inj.mp
  apply BitVec.eq_of_toNat_eq
  have hn : n < 2 ^ 32 := Nat.lt_of_le_of_lt (Nat.le_mul_of_pos_right n (Nat.two_pow_pos k)) h
  rw [pk_shl _ _ k hs, pk_tn hn, pk_tn h, Nat.mod_eq_of_lt h]
theorem pk_shr (a s : Int32) (k : Nat) (hs : (s.toBitVec.smod 32).toNat = k) : (a >>> s).toInt = a.toInt >>> k := by
  show (a.toBitVec.sshiftRight (s.toBitVec.smod 32).toNat).toInt = _
  rw [hs, BitVec.toInt_sshiftRight]
  rfl
theorem pk_shrN {n : Nat} (h : n < 2 ^ 31) (s : Int32) (k : Nat) (hs : (s.toBitVec.smod 32).toNat = k) : nI n >>> s = nI (n / 2 ^ k) := by
  apply Int32.toInt_inj.mp
  have h2 : n / 2 ^ k ≤ n := Nat.div_le_self _ _
  rw [pk_shr _ _ k hs, nI_toInt h, nI_toInt (by omega), Int.shiftRight_eq_div_pow]
  rfl
theorem s_l : ∀ n, n < 32 → ((nI n &&& 31).toBitVec.smod 32).toNat = n := by decide +kernel
end
section
/-! pure laws: sums over Int32, scatters, fillings -/
def cv_sm (f : Nat → Int32) : Nat → Int32
  | 0 => 0
  | n + 1 => cv_sm f n + f n
theorem cv_sm_congr {f g : Nat → Int32} : ∀ n, (∀ i, i < n → f i = g i) → cv_sm f n = cv_sm g n := by
  intro n
  induction n with
  | zero => intro _; rfl
  | succ n ih =>
    intro h
    show cv_sm f n + f n = cv_sm g n + g n
    rw [ih (fun i hi => h i (by omega)), h n (by omega)]
theorem cv_sm_0 {f : Nat → Int32} : ∀ n, (∀ i, i < n → f i = 0) → cv_sm f n = 0 := by
  intro n
  induction n with
  | zero => intro _; rfl
  | succ n ih =>
    intro h
    show cv_sm f n + f n = 0
    rw [ih (fun i hi => h i (by omega)), h n (by omega)]
    decide
theorem cv_sm_add (f g : Nat → Int32) : ∀ n, cv_sm (fun i => f i + g i) n = cv_sm f n + cv_sm g n := by
  intro n
  induction n with
  | zero => show (0 : Int32) = 0 + 0; decide
  | succ n ih =>
    show cv_sm (fun i => f i + g i) n + (f n + g n) = (cv_sm f n + f n) + (cv_sm g n + g n)
    rw [ih]; grind
theorem cv_sm_swap (F : Nat → Nat → Int32) (n : Nat) : ∀ m, cv_sm (fun p => cv_sm (fun i => F p i) n) m = cv_sm (fun i => cv_sm (fun p => F p i) m) n := by
  intro m
  induction m with
  | zero => exact (cv_sm_0 n (fun i _ => rfl)).symm
  | succ m ih =>
    show cv_sm (fun p => cv_sm (fun i => F p i) n) m + cv_sm (fun i => F m i) n = cv_sm (fun i => cv_sm (fun p => F p i) m + F m i) n
    rw [ih]
    exact (cv_sm_add (fun i => cv_sm (fun p => F p i) m) (fun i => F m i) n).symm
theorem cv_sm_one (a : Nat) (f : Nat → Int32) : ∀ m, a < m → cv_sm (fun p => if p = a then f p else 0) m = f a := by
  intro m
  induction m with
  | zero => intro h; exact absurd h (Nat.not_lt_zero a)
  | succ m ih =>
    intro h
    show cv_sm (fun p => if p = a then f p else 0) m + (if m = a then f m else 0) = f a
    by_cases e : m = a
    · subst e
      rw [cv_sm_0 m (fun i hi => if_neg (by omega)), if_pos rfl, Int32.zero_add]
    · rw [ih (by omega), if_neg e, Int32.add_zero]
theorem cv_sm_if (c : Prop) (dc : Decidable c) (f : Nat → Int32) (n : Nat) : (if c then cv_sm f n else 0) = cv_sm (fun i => if c then f i else 0) n := by
  by_cases z : c
  · rw [if_pos z]
    exact cv_sm_congr n (fun i _ => (if_pos z).symm)
  · rw [if_neg z]
    exact (cv_sm_0 n (fun i _ => if_neg z)).symm
theorem cv_sm_chg {f f' : Nat → Int32} {k : Nat} : ∀ n, k < n → (∀ i, i < n → i ≠ k → f' i = f i) → cv_sm f' n = cv_sm f n + (f' k - f k) := by
  intro n
  induction n with
  | zero => intro h; exact absurd h (Nat.not_lt_zero k)
  | succ n ih =>
    intro h hf
    show cv_sm f' n + f' n = cv_sm f n + f n + (f' k - f k)
    by_cases e : k = n
    · subst e
      rw [cv_sm_congr k (fun i hi => hf i (by omega) (by omega))]
      grind
    · rw [ih (by omega) (fun i hi hk => hf i (by omega) hk), hf n (by omega) (fun z => e z.symm)]
      grind
theorem cv_sm_cnt {f : Nat → Int32} : ∀ n, n ≤ 1000 → (∀ i, i < n → f i = 0 ∨ f i = 1) → 0 ≤ (cv_sm f n).toInt ∧ (cv_sm f n).toInt ≤ n ∧ ((cv_sm f n).toInt ≤ 0 → ∀ i, i < n → f i = 0) := by
  intro n
  induction n with
  | zero =>
    intro _ _
    have e0 : (cv_sm f 0).toInt = 0 := by show (0 : Int32).toInt = 0; decide
    rw [e0]
    exact ⟨by decide, by decide, fun _ i hi => absurd hi (Nat.not_lt_zero i)⟩
  | succ n ih =>
    intro hn h
    obtain ⟨h1, h2, h3⟩ := ih (by omega) (fun i hi => h i (by omega))
    have e0 : (0 : Int32).toInt = 0 := by decide
    have e1 : (1 : Int32).toInt = 1 := by decide
    have hf := h n (by omega)
    have hb : (f n).toInt = 0 ∨ (f n).toInt = 1 := by
      rcases hf with e | e
      · exact Or.inl (by rw [e]; exact e0)
      · exact Or.inr (by rw [e]; exact e1)
    have hs : (cv_sm f (n + 1)).toInt = (cv_sm f n).toInt + (f n).toInt := Jvm.Kit.i32_add (by omega) (by omega)
    refine ⟨by omega, by omega, fun hz i hi => ?_⟩
    by_cases e : i = n
    · subst e
      rcases hf with e | e
      · exact e
      · rw [e, e1] at hs
        omega
    · exact h3 (by omega) i (by omega)
theorem cv_sm_bd {f : Nat → Int32} : ∀ n, n ≤ 1000 → (∀ i, i < n → -50 ≤ (f i).toInt ∧ (f i).toInt ≤ 50) → -50 * (n : Int) ≤ (cv_sm f n).toInt ∧ (cv_sm f n).toInt ≤ 50 * (n : Int) := by
  intro n
  induction n with
  | zero =>
    intro _ _
    have e0 : (cv_sm f 0).toInt = 0 := by show (0 : Int32).toInt = 0; decide
    rw [e0]
    exact ⟨by decide, by decide⟩
  | succ n ih =>
    intro hn h
    obtain ⟨h1, h2⟩ := ih (by omega) (fun i hi => h i (by omega))
    have hb := h n (by omega)
    have hs : (cv_sm f (n + 1)).toInt = (cv_sm f n).toInt + (f n).toInt := Jvm.Kit.i32_add (by omega) (by omega)
    omega
/-- scatter: for i = 0, 1 .. with c i, w i is added to cell ix i -/
def cv_sc (c : Nat → Bool) (ix : Nat → Nat) (w a : Nat → Int32) : Nat → Nat → Int32
  | 0 => a
  | i + 1 => if c i = true then upd (cv_sc c ix w a i) (ix i) (cv_sc c ix w a i (ix i) + w i) else cv_sc c ix w a i
theorem cv_sc_t {c : Nat → Bool} {ix : Nat → Nat} {w a : Nat → Int32} {i : Nat} (h : c i = true) : cv_sc c ix w a (i + 1) = upd (cv_sc c ix w a i) (ix i) (cv_sc c ix w a i (ix i) + w i) := if_pos h
theorem cv_sc_f {c : Nat → Bool} {ix : Nat → Nat} {w a : Nat → Int32} {i : Nat} (h : c i = false) : cv_sc c ix w a (i + 1) = cv_sc c ix w a i := if_neg (by rw [h]; decide)
theorem cv_sc_eq (c : Nat → Bool) (ix : Nat → Nat) (w a : Nat → Int32) (j : Nat) : ∀ m, cv_sc c ix w a m j = a j + cv_sm (fun i => if c i = true ∧ ix i = j then w i else 0) m := by
  intro m
  induction m with
  | zero => exact (Int32.add_zero _).symm
  | succ m ih =>
    show _ = a j + (cv_sm (fun i => if c i = true ∧ ix i = j then w i else 0) m + (if c m = true ∧ ix m = j then w m else 0))
    by_cases hc : c m = true
    · rw [cv_sc_t hc]
      by_cases hj : ix m = j
      · rw [if_pos ⟨hc, hj⟩, hj, pk_us, ih, Int32.add_assoc]
      · rw [if_neg (fun z => hj z.2), pk_un (fun z => hj z.symm), ih, Int32.add_zero]
    · rw [cv_sc_f (by simpa using hc), if_neg (fun z => hc z.1), ih, Int32.add_zero]
/-- filling: v at o, o + 1 .. -/
def cv_fl (o : Nat) (v : Int32) (a : Nat → Int32) : Nat → Nat → Int32
  | 0 => a
  | i + 1 => upd (cv_fl o v a i) (o + i) v
theorem cv_fl0 (v : Int32) (a : Nat → Int32) (i : Nat) : upd (cv_fl 0 v a i) i v = cv_fl 0 v a (i + 1) := by
  show _ = upd (cv_fl 0 v a i) (0 + i) v
  rw [Nat.zero_add]
theorem cv_fl_in (o : Nat) (v : Int32) (a : Nat → Int32) : ∀ m j, j < m → cv_fl o v a m (o + j) = v := by
  intro m
  induction m with
  | zero => intro j h; exact absurd h (Nat.not_lt_zero j)
  | succ m ih =>
    intro j h
    show upd (cv_fl o v a m) (o + m) v (o + j) = v
    by_cases e : j = m
    · subst e; exact pk_us
    · rw [pk_un (by omega)]; exact ih j (by omega)
theorem cv_fl_out (o : Nat) (v : Int32) (a : Nat → Int32) (k : Nat) : ∀ m, (k < o ∨ o + m ≤ k) → cv_fl o v a m k = a k := by
  intro m
  induction m with
  | zero => intro _; rfl
  | succ m ih =>
    intro h
    show upd (cv_fl o v a m) (o + m) v k = a k
    rw [pk_un (by omega)]; exact ih (by omega)
theorem cv_fl0_in (v : Int32) (a : Nat → Int32) {m j : Nat} (h : j < m) : cv_fl 0 v a m j = v := by
  have e := cv_fl_in 0 v a m j h
  rw [Nat.zero_add] at e
  exact e
/-! groups and filters -/
def cv_gr (p g : Nat) : Nat := (if g % 2 = 0 then 0 else p % 4) + 4 * (if g / 2 % 2 = 0 then 0 else p / 4 % 5) + 20 * (if g / 4 % 2 = 0 then 0 else p / 20)
theorem cv_gr_lt {p : Nat} (g : Nat) (hp : p < 120) : cv_gr p g < 120 := by
  unfold cv_gr
  split <;> split <;> split <;> omega
theorem cv_gr_r {p g : Nat} (hp : p < 120) (hg : ¬ g % 2 = 0) : cv_gr p g % 4 = p % 4 := by
  unfold cv_gr
  rw [if_neg hg]
  split <;> split <;> omega
theorem cv_gr_k {p g : Nat} (hp : p < 120) (hg : ¬ g / 2 % 2 = 0) : cv_gr p g / 4 % 5 = p / 4 % 5 := by
  unfold cv_gr
  rw [if_neg hg]
  split <;> split <;> omega
theorem cv_gr_m {p g : Nat} (hp : p < 120) (hg : ¬ g / 4 % 2 = 0) : cv_gr p g / 20 = p / 20 := by
  unfold cv_gr
  rw [if_neg hg]
  split <;> split <;> omega
def cv_sub (d g : Nat) : Prop := (g % 2 = 0 → d % 2 = 0) ∧ (g / 2 % 2 = 0 → d / 2 % 2 = 0) ∧ (g / 4 % 2 = 0 → d / 4 % 2 = 0)
theorem cv_sub_tr {a b c : Nat} (h : cv_sub a b) (k : cv_sub b c) : cv_sub a c := ⟨fun z => h.1 (k.1 z), fun z => h.2.1 (k.2.1 z), fun z => h.2.2 (k.2.2 z)⟩
theorem cv_gr_gr {p g d : Nat} (hp : p < 120) (h : cv_sub d g) : cv_gr (cv_gr p g) d = cv_gr p d := by
  have e1 : (if d % 2 = 0 then 0 else cv_gr p g % 4) = (if d % 2 = 0 then 0 else p % 4) := by
    by_cases z : d % 2 = 0
    · rw [if_pos z, if_pos z]
    · rw [if_neg z, if_neg z]; exact cv_gr_r hp (fun y => z (h.1 y))
  have e2 : (if d / 2 % 2 = 0 then 0 else cv_gr p g / 4 % 5) = (if d / 2 % 2 = 0 then 0 else p / 4 % 5) := by
    by_cases z : d / 2 % 2 = 0
    · rw [if_pos z, if_pos z]
    · rw [if_neg z, if_neg z]; exact cv_gr_k hp (fun y => z (h.2.1 y))
  have e3 : (if d / 4 % 2 = 0 then 0 else cv_gr p g / 20) = (if d / 4 % 2 = 0 then 0 else p / 20) := by
    by_cases z : d / 4 % 2 = 0
    · rw [if_pos z, if_pos z]
    · rw [if_neg z, if_neg z]; exact cv_gr_m hp (fun y => z (h.2.2 y))
  show (if d % 2 = 0 then 0 else cv_gr p g % 4) + 4 * (if d / 2 % 2 = 0 then 0 else cv_gr p g / 4 % 5) + 20 * (if d / 4 % 2 = 0 then 0 else cv_gr p g / 20) = cv_gr p d
  rw [e1, e2, e3]
  rfl
def cv_bt (f r : Nat) : Bool := decide (f / 2 ^ r % 2 = 1)
def cv_ps (p f d : Nat) : Bool := (decide (d % 2 = 0) || cv_bt f (p % 4)) && (decide (d / 2 % 2 = 0) || cv_bt f (4 + p / 4 % 5)) && (decide (d / 4 % 2 = 0) || cv_bt f (9 + p / 20))
def cv_cu (f : Nat) : Nat := (if f % 16 = 15 then 0 else 1) + (if f / 16 % 32 = 31 then 0 else 2) + (if f / 512 = 63 then 0 else 4)
theorem cv_cu_lt (f : Nat) : cv_cu f < 8 := by
  unfold cv_cu
  split <;> split <;> split <;> omega
theorem cv_cu_b (f : Nat) : (cv_cu f % 2 = 0 → f % 16 = 15) ∧ (cv_cu f / 2 % 2 = 0 → f / 16 % 32 = 31) ∧ (cv_cu f / 4 % 2 = 0 → f / 512 = 63) := by
  unfold cv_cu
  split <;> split <;> split <;> refine ⟨?_, ?_, ?_⟩ <;> intro h <;> omega
theorem cv_bt_r {f r : Nat} (h : f % 16 = 15) (hr : r < 4) : cv_bt f r = true := by
  have c : r = 0 ∨ r = 1 ∨ r = 2 ∨ r = 3 := by omega
  rcases c with rfl | rfl | rfl | rfl
  · exact decide_eq_true (show f / 1 % 2 = 1 by omega)
  · exact decide_eq_true (show f / 2 % 2 = 1 by omega)
  · exact decide_eq_true (show f / 4 % 2 = 1 by omega)
  · exact decide_eq_true (show f / 8 % 2 = 1 by omega)
theorem cv_bt_k {f r : Nat} (h : f / 16 % 32 = 31) (hr : r < 5) : cv_bt f (4 + r) = true := by
  have c : r = 0 ∨ r = 1 ∨ r = 2 ∨ r = 3 ∨ r = 4 := by omega
  rcases c with rfl | rfl | rfl | rfl | rfl
  · exact decide_eq_true (show f / 16 % 2 = 1 by omega)
  · exact decide_eq_true (show f / 32 % 2 = 1 by omega)
  · exact decide_eq_true (show f / 64 % 2 = 1 by omega)
  · exact decide_eq_true (show f / 128 % 2 = 1 by omega)
  · exact decide_eq_true (show f / 256 % 2 = 1 by omega)
theorem cv_bt_m {f r : Nat} (h : f / 512 = 63) (hr : r < 6) : cv_bt f (9 + r) = true := by
  have c : r = 0 ∨ r = 1 ∨ r = 2 ∨ r = 3 ∨ r = 4 ∨ r = 5 := by omega
  rcases c with rfl | rfl | rfl | rfl | rfl | rfl
  · exact decide_eq_true (show f / 512 % 2 = 1 by omega)
  · exact decide_eq_true (show f / 1024 % 2 = 1 by omega)
  · exact decide_eq_true (show f / 2048 % 2 = 1 by omega)
  · exact decide_eq_true (show f / 4096 % 2 = 1 by omega)
  · exact decide_eq_true (show f / 8192 % 2 = 1 by omega)
  · exact decide_eq_true (show f / 16384 % 2 = 1 by omega)
theorem cv_or1 {c : Prop} {dc : Decidable c} {x y : Bool} (h : ¬ c → x = y) : (decide c || x) = (decide c || y) := by
  by_cases z : c
  · rw [decide_eq_true z]; rfl
  · rw [h z]
theorem cv_or2 {c : Prop} {dc : Decidable c} {x : Bool} (h : c → x = true) : (decide c || x) = (false || x) := by
  by_cases z : c
  · rw [h z, Bool.or_true, Bool.or_true]
  · rw [decide_eq_false z]
theorem cv_ps_gr {p f d g : Nat} (hp : p < 120) (h : cv_sub d g) : cv_ps (cv_gr p g) f d = cv_ps p f d := by
  have e1 : (decide (d % 2 = 0) || cv_bt f (cv_gr p g % 4)) = (decide (d % 2 = 0) || cv_bt f (p % 4)) := cv_or1 (fun z => by rw [cv_gr_r hp (fun y => z (h.1 y))])
  have e2 : (decide (d / 2 % 2 = 0) || cv_bt f (4 + cv_gr p g / 4 % 5)) = (decide (d / 2 % 2 = 0) || cv_bt f (4 + p / 4 % 5)) := cv_or1 (fun z => by rw [cv_gr_k hp (fun y => z (h.2.1 y))])
  have e3 : (decide (d / 4 % 2 = 0) || cv_bt f (9 + cv_gr p g / 20)) = (decide (d / 4 % 2 = 0) || cv_bt f (9 + p / 20)) := cv_or1 (fun z => by rw [cv_gr_m hp (fun y => z (h.2.2 y))])
  unfold cv_ps
  rw [e1, e2, e3]
theorem cv_ps_7 {p f d : Nat} (hp : p < 120) (h : cv_sub (cv_cu f) d) : cv_ps p f d = cv_ps p f 7 := by
  have e1 : (decide (d % 2 = 0) || cv_bt f (p % 4)) = (false || cv_bt f (p % 4)) := cv_or2 (fun z => cv_bt_r ((cv_cu_b f).1 (h.1 z)) (by omega))
  have e2 : (decide (d / 2 % 2 = 0) || cv_bt f (4 + p / 4 % 5)) = (false || cv_bt f (4 + p / 4 % 5)) := cv_or2 (fun z => cv_bt_k ((cv_cu_b f).2.1 (h.2.1 z)) (by omega))
  have e3 : (decide (d / 4 % 2 = 0) || cv_bt f (9 + p / 20)) = (false || cv_bt f (9 + p / 20)) := cv_or2 (fun z => cv_bt_m ((cv_cu_b f).2.2 (h.2.2 z)) (by omega))
  show ((decide (d % 2 = 0) || cv_bt f (p % 4)) && (decide (d / 2 % 2 = 0) || cv_bt f (4 + p / 4 % 5)) && (decide (d / 4 % 2 = 0) || cv_bt f (9 + p / 20))) = _
  rw [e1, e2, e3]
  rfl
end
section
/-! pure laws: places, cells, groups' sums, folds over the groups, maxima -/
def cv_q (pl : Nat → Int32) (i : Nat) : Nat := (pl i).toNatClampNeg
/-- the last index below m at place p, or -1 -/
def cv_ls (pl : Nat → Int32) : Nat → Nat → Int32
  | 0, _ => -1
  | m + 1, p => if cv_q pl m = p then nI m else cv_ls pl m p
theorem cv_ls_congr {pl pl' : Nat → Int32} {p : Nat} : ∀ m, (∀ i, i < m → pl' i = pl i) → cv_ls pl' m p = cv_ls pl m p := by
  intro m
  induction m with
  | zero => intro _; rfl
  | succ m ih =>
    intro h
    have e : cv_q pl' m = cv_q pl m := congrArg Int32.toNatClampNeg (h m (by omega))
    show (if cv_q pl' m = p then nI m else cv_ls pl' m p) = (if cv_q pl m = p then nI m else cv_ls pl m p)
    rw [e, ih (fun i hi => h i (by omega))]
theorem cv_ls_neg {pl : Nat → Int32} {p : Nat} : ∀ m, m < 2 ^ 31 → cv_ls pl m p < 0 → ∀ i, i < m → cv_q pl i ≠ p := by
  intro m
  induction m with
  | zero => intro _ _ i hi; exact absurd hi (Nat.not_lt_zero i)
  | succ m ih =>
    intro hm h i hi
    have h' : (if cv_q pl m = p then nI m else cv_ls pl m p) < 0 := h
    by_cases e : cv_q pl m = p
    · rw [if_pos e] at h'
      exact absurd h' (nI_pos (by omega))
    · rw [if_neg e] at h'
      by_cases k : i = m
      · subst k; exact e
      · exact ih (by omega) h' i (by omega)
def cv_cell (pl w : Nat → Int32) (n g j : Nat) : Int32 := cv_sm (fun i => if cv_gr (cv_q pl i) g = j then w i else 0) n
def cv_G (pl w : Nat → Int32) (n h f j : Nat) : Int32 := cv_sm (fun i => if cv_gr (cv_q pl i) h = j ∧ cv_ps (cv_q pl i) f 7 = true then w i else 0) n
/-- a group's sum out of a summary's cells -/
theorem cv_gath {n : Nat} {pl : Nat → Int32} (hq : ∀ i, i < n → cv_q pl i < 120) {g h d f : Nat} (hdg : cv_sub d g) (hhd : cv_sub h d) (hcd : cv_sub (cv_cu f) d) (w : Nat → Int32) (c : Nat → Bool) (hc : ∀ p, p < 120 → c p = false → cv_cell pl w n g p = 0) (j : Nat) :
    cv_sm (fun p => if (c p && cv_ps p f d) = true ∧ cv_gr p h = j then cv_cell pl w n g p else 0) 120 = cv_G pl w n h f j := by
  have A : ∀ p, p < 120 → (if (c p && cv_ps p f d) = true ∧ cv_gr p h = j then cv_cell pl w n g p else 0) = cv_sm (fun i => if p = cv_gr (cv_q pl i) g then (if cv_ps p f d = true ∧ cv_gr p h = j then w i else 0) else 0) n := by
    intro p hp
    by_cases y : cv_ps p f d = true ∧ cv_gr p h = j
    · have E : cv_sm (fun i => if p = cv_gr (cv_q pl i) g then (if cv_ps p f d = true ∧ cv_gr p h = j then w i else 0) else 0) n = cv_cell pl w n g p := by
        refine cv_sm_congr n (fun i _ => ?_)
        try dsimp only
        rw [if_pos y]
        by_cases z : cv_gr (cv_q pl i) g = p
        · rw [if_pos z, if_pos z.symm]
        · rw [if_neg z, if_neg (fun t => z t.symm)]
      rw [E]
      by_cases z : c p = true
      · rw [if_pos ⟨by rw [z, y.1]; rfl, y.2⟩]
      · have z' : c p = false := by simpa using z
        rw [hc p hp z']
        by_cases x : (c p && cv_ps p f d) = true ∧ cv_gr p h = j
        · rw [if_pos x]
        · rw [if_neg x]
    · rw [if_neg (fun x => y ⟨(Bool.and_eq_true_iff.mp x.1).2, x.2⟩)]
      refine (cv_sm_0 n (fun i _ => ?_)).symm
      try dsimp only
      rw [if_neg y]
      by_cases z : p = cv_gr (cv_q pl i) g
      · rw [if_pos z]
      · rw [if_neg z]
  rw [cv_sm_congr 120 A, cv_sm_swap (fun p i => if p = cv_gr (cv_q pl i) g then (if cv_ps p f d = true ∧ cv_gr p h = j then w i else 0) else 0) n 120]
  refine cv_sm_congr n (fun i hi => ?_)
  have hp := hq i hi
  have e := cv_sm_one (cv_gr (cv_q pl i) g) (fun p => if cv_ps p f d = true ∧ cv_gr p h = j then w i else 0) 120 (cv_gr_lt g hp)
  refine e.trans ?_
  try dsimp only
  rw [cv_ps_gr hp hdg, cv_ps_7 hp hcd, cv_gr_gr hp (cv_sub_tr hhd hdg)]
  by_cases z : cv_gr (cv_q pl i) h = j ∧ cv_ps (cv_q pl i) f 7 = true
  · rw [if_pos z, if_pos ⟨z.2, z.1⟩]
  · rw [if_neg z, if_neg (fun t => z ⟨t.2, t.1⟩)]
/-- a cell without a fact holds no sum either -/
theorem cv_cell_0 {n : Nat} {pl : Nat → Int32} (hn : n ≤ 1000) {g p : Nat} (h : cv_cell pl (fun _ => 1) n g p ≤ 0) (w : Nat → Int32) : cv_cell pl w n g p = 0 := by
  have h' : (cv_sm (fun i => if cv_gr (cv_q pl i) g = p then (1 : Int32) else 0) n).toInt ≤ 0 := Int32.le_iff_toInt_le.mp h
  have k := (cv_sm_cnt (f := fun i => if cv_gr (cv_q pl i) g = p then (1 : Int32) else 0) n hn (fun i _ => by
    try dsimp only
    by_cases z : cv_gr (cv_q pl i) g = p
    · rw [if_pos z]; exact Or.inr rfl
    · rw [if_neg z]; exact Or.inl rfl)).2.2 h'
  refine cv_sm_0 n (fun i hi => ?_)
  have k2 := k i hi
  try dsimp only at k2 ⊢
  by_cases z : cv_gr (cv_q pl i) g = p
  · rw [if_pos z] at k2
    exact absurd k2 (by decide)
  · rw [if_neg z]
/-- the cells of the kept groupings are right, for one weight -/
def cv_CW (n : Nat) (pl w kp c : Nat → Int32) : Prop := ∀ g, g < 8 → ¬ kp g = 0 → ∀ j, j < 120 → c (120 * g + j) = cv_cell pl w n g j
def cv_en (kp : Nat → Int32) (p : Nat) (w : Int32) (a : Nat → Int32) : Nat → Nat → Int32 := cv_sc (fun g => !decide (kp g = 0)) (fun g => 120 * g + cv_gr p g) (fun _ => w) a
theorem cv_en_t {kp : Nat → Int32} {p : Nat} {w : Int32} {a : Nat → Int32} {i : Nat} (h : ¬ kp i = 0) : cv_en kp p w a (i + 1) = upd (cv_en kp p w a i) (120 * i + cv_gr p i) (cv_en kp p w a i (120 * i + cv_gr p i) + w) := cv_sc_t (by simp [h])
theorem cv_en_f {kp : Nat → Int32} {p : Nat} {w : Int32} {a : Nat → Int32} {i : Nat} (h : kp i = 0) : cv_en kp p w a (i + 1) = cv_en kp p w a i := cv_sc_f (by simp [h])
theorem cv_en_at {kp : Nat → Int32} {p : Nat} {w : Int32} {a : Nat → Int32} {g j : Nat} (hp : p < 120) (hg : g < 8) (hk : ¬ kp g = 0) (hj : j < 120) : cv_en kp p w a 8 (120 * g + j) = a (120 * g + j) + (if cv_gr p g = j then w else 0) := by
  refine (cv_sc_eq _ _ _ _ _ 8).trans (congrArg (a (120 * g + j) + ·) ?_)
  refine Eq.trans ?_ (cv_sm_one g (fun _ => if cv_gr p g = j then w else 0) 8 hg)
  refine cv_sm_congr 8 (fun i _ => ?_)
  try dsimp only
  have hl := cv_gr_lt i hp
  have hl2 := cv_gr_lt g hp
  by_cases z : i = g
  · subst z
    rw [if_pos rfl]
    by_cases y : cv_gr p i = j
    · rw [if_pos y, if_pos ⟨by simp [hk], by omega⟩]
    · rw [if_neg y, if_neg (fun t => y (by have := t.2; omega))]
  · rw [if_neg z, if_neg (fun t => z (by have := t.2; omega))]
theorem cv_CW_add {n : Nat} {pl w kp c pl' w' : Nat → Int32} {p : Nat} {x : Int32} (hp : p < 120) (C : cv_CW n pl w kp c) (h1 : ∀ i, i < n → pl' i = pl i) (h2 : cv_q pl' n = p) (h3 : ∀ i, i < n → w' i = w i) (h4 : w' n = x) : cv_CW (n + 1) pl' w' kp (cv_en kp p x c 8) := by
  intro g hg hk j hj
  rw [cv_en_at hp hg hk hj, C g hg hk j hj]
  show _ = cv_sm (fun i => if cv_gr (cv_q pl' i) g = j then w' i else 0) n + (if cv_gr (cv_q pl' n) g = j then w' n else 0)
  rw [h2, h4]
  refine congrArg (· + (if cv_gr p g = j then x else 0)) (cv_sm_congr n (fun i hi => ?_))
  have e : cv_q pl' i = cv_q pl i := congrArg Int32.toNatClampNeg (h1 i hi)
  try dsimp only
  rw [e, h3 i hi]
theorem cv_CW_rem {n : Nat} {pl w kp c : Nat → Int32} {p : Nat} {x : Int32} (hp : p < 120) (C : cv_CW (n + 1) pl w kp c) (h2 : cv_q pl n = p) (h4 : -(w n) = x) : cv_CW n pl w kp (cv_en kp p x c 8) := by
  intro g hg hk j hj
  rw [cv_en_at hp hg hk hj, C g hg hk j hj]
  show cv_sm (fun i => if cv_gr (cv_q pl i) g = j then w i else 0) n + (if cv_gr (cv_q pl n) g = j then w n else 0) + (if cv_gr p g = j then x else 0) = cv_cell pl w n g j
  rw [h2, ← h4]
  show cv_cell pl w n g j + (if cv_gr p g = j then w n else 0) + (if cv_gr p g = j then -(w n) else 0) = cv_cell pl w n g j
  by_cases z : cv_gr p g = j
  · rw [if_pos z, if_pos z]; grind
  · rw [if_neg z, if_neg z, Int32.add_zero, Int32.add_zero]
theorem cv_CW_chg {n : Nat} {pl w kp c w' : Nat → Int32} {p k : Nat} {x : Int32} (hp : p < 120) (C : cv_CW n pl w kp c) (hk : k < n) (h2 : cv_q pl k = p) (h3 : ∀ i, i ≠ k → w' i = w i) (h4 : w' k - w k = x) : cv_CW n pl w' kp (cv_en kp p x c 8) := by
  intro g hg hkp j hj
  rw [cv_en_at hp hg hkp hj, C g hg hkp j hj]
  refine Eq.symm ?_
  refine (cv_sm_chg (f := fun i => if cv_gr (cv_q pl i) g = j then w i else 0) (k := k) n hk (fun i _ hi => ?_)).trans ?_
  · try dsimp only
    rw [h3 i hi]
  · try dsimp only
    rw [h2]
    show cv_cell pl w n g j + _ = cv_cell pl w n g j + _
    by_cases z : cv_gr p g = j
    · rw [if_pos z, if_pos z, if_pos z, h4]
    · rw [if_neg z, if_neg z, if_neg z, Int32.sub_self]
def cv_fi (pl : Nat → Int32) (g : Nat) (w a : Nat → Int32) : Nat → Nat → Int32 := cv_sc (fun _ => true) (fun i => 120 * g + cv_gr (cv_q pl i) g) w a
theorem cv_fi_t {pl : Nat → Int32} {g : Nat} {w a : Nat → Int32} {i : Nat} : cv_fi pl g w a (i + 1) = upd (cv_fi pl g w a i) (120 * g + cv_gr (cv_q pl i) g) (cv_fi pl g w a i (120 * g + cv_gr (cv_q pl i) g) + w i) := cv_sc_t rfl
theorem cv_CW_fill {n : Nat} {pl w kp c : Nat → Int32} {g : Nat} {y : Int32} (hg : g < 8) (hq : ∀ i, i < n → cv_q pl i < 120) (C : cv_CW n pl w kp c) : cv_CW n pl w (upd kp g y) (cv_fi pl g w (cv_fl (120 * g) 0 c 120) n) := by
  intro g' hg' hk j hj
  refine (cv_sc_eq _ _ _ _ _ n).trans ?_
  by_cases e : g' = g
  · subst e
    rw [cv_fl_in _ _ _ 120 j hj, Int32.zero_add]
    refine cv_sm_congr n (fun i hi => ?_)
    try dsimp only
    by_cases z : cv_gr (cv_q pl i) g' = j
    · rw [if_pos z, if_pos ⟨rfl, by omega⟩]
    · rw [if_neg z, if_neg (fun t => z (by have := t.2; omega))]
  · rw [pk_un e] at hk
    rw [cv_fl_out _ _ _ _ 120 (by omega), C g' hg' hk j hj, cv_sm_0 n (fun i hi => if_neg (fun t => e (by have := t.2; have := cv_gr_lt g (hq i hi); omega))), Int32.add_zero]
/-! folds over the groups -/
def cv_cg (A : Nat → Int32) : Nat → Int32
  | 0 => 0
  | p + 1 => if A p ≤ 0 then cv_cg A p else cv_cg A p + 1
def cv_al (A B : Nat → Int32) (x : Int32) : Nat → Int32
  | 0 => 0
  | p + 1 => if A p ≤ 0 then cv_al A B x p else if B p < x then cv_al A B x p else cv_al A B x p + 1
def cv_tp (A B : Nat → Int32) : Nat → Int32
  | 0 => -1
  | p + 1 => if A p ≤ 0 then cv_tp A B p else if cv_tp A B p < 0 then nI p else if B p ≤ B (cv_tp A B p).toNatClampNeg then cv_tp A B p else nI p
def cv_ym (A B : Nat → Int32) : Nat → Int32
  | 0 => -4000000
  | p + 1 => if A p ≤ 0 then cv_ym A B p else if B p ≤ cv_ym A B p then cv_ym A B p else B p
def cv_yb (A B : Nat → Int32) : Nat → Int32
  | 0 => -4000000
  | p + 1 => if A p ≤ 0 then cv_yb A B p else if B p ≤ cv_ym A B p then cv_yb A B p else nI p
theorem cv_tp_in (A B : Nat → Int32) : ∀ m, cv_tp A B m = -1 ∨ ∃ b, b < m ∧ cv_tp A B m = nI b := by
  intro m
  induction m with
  | zero => exact Or.inl rfl
  | succ m ih =>
    have K : cv_tp A B m = -1 ∨ ∃ b, b < m + 1 ∧ cv_tp A B m = nI b := by
      rcases ih with e | ⟨b, hb, e⟩
      · exact Or.inl e
      · exact Or.inr ⟨b, by omega, e⟩
    show (if A m ≤ 0 then cv_tp A B m else if cv_tp A B m < 0 then nI m else if B m ≤ B (cv_tp A B m).toNatClampNeg then cv_tp A B m else nI m) = -1 ∨ ∃ b, b < m + 1 ∧ (if A m ≤ 0 then cv_tp A B m else if cv_tp A B m < 0 then nI m else if B m ≤ B (cv_tp A B m).toNatClampNeg then cv_tp A B m else nI m) = nI b
    by_cases h1 : A m ≤ 0
    · rw [if_pos h1]; exact K
    · rw [if_neg h1]
      by_cases h2 : cv_tp A B m < 0
      · rw [if_pos h2]; exact Or.inr ⟨m, by omega, rfl⟩
      · rw [if_neg h2]
        by_cases h3 : B m ≤ B (cv_tp A B m).toNatClampNeg
        · rw [if_pos h3]; exact K
        · rw [if_neg h3]; exact Or.inr ⟨m, by omega, rfl⟩
theorem cv_top {A B : Nat → Int32} (hB : ∀ p, p < 120 → ¬ B p ≤ -4000000) : ∀ m, m ≤ 120 → (cv_tp A B m = -1 ∧ cv_ym A B m = -4000000 ∧ cv_yb A B m = -4000000) ∨ ∃ b, b < m ∧ cv_tp A B m = nI b ∧ cv_ym A B m = B b ∧ cv_yb A B m = nI b := by
  intro m
  induction m with
  | zero => intro _; exact Or.inl ⟨rfl, rfl, rfl⟩
  | succ m ih =>
    intro hm
    have K := ih (by omega)
    have T : cv_tp A B (m + 1) = (if A m ≤ 0 then cv_tp A B m else if cv_tp A B m < 0 then nI m else if B m ≤ B (cv_tp A B m).toNatClampNeg then cv_tp A B m else nI m) := rfl
    have Y : cv_ym A B (m + 1) = (if A m ≤ 0 then cv_ym A B m else if B m ≤ cv_ym A B m then cv_ym A B m else B m) := rfl
    have Z : cv_yb A B (m + 1) = (if A m ≤ 0 then cv_yb A B m else if B m ≤ cv_ym A B m then cv_yb A B m else nI m) := rfl
    rw [T, Y, Z]
    by_cases h1 : A m ≤ 0
    · rw [if_pos h1, if_pos h1, if_pos h1]
      rcases K with e | ⟨b, hb, e⟩
      · exact Or.inl e
      · exact Or.inr ⟨b, by omega, e⟩
    · rw [if_neg h1, if_neg h1, if_neg h1]
      rcases K with ⟨e1, e2, e3⟩ | ⟨b, hb, e1, e2, e3⟩
      · rw [e1, e2, e3, if_pos (by decide), if_neg (hB m (by omega)), if_neg (hB m (by omega))]
        exact Or.inr ⟨m, by omega, rfl, rfl, rfl⟩
      · rw [e1, e2, e3, if_neg (nI_pos (by omega)), nI_clamp (by omega)]
        by_cases h3 : B m ≤ B b
        · rw [if_pos h3, if_pos h3]
          exact Or.inr ⟨b, by omega, rfl, rfl, rfl⟩
        · rw [if_neg h3, if_neg h3]
          exact Or.inr ⟨m, by omega, rfl, rfl, rfl⟩
/-! maxima -/
def cv_MX (m : Nat) (P : Nat → Prop) (a : Nat → Int32) (b r : Int32) : Prop := b ≤ r ∧ (∀ i, i < m → P i → a i ≤ r) ∧ (r = b ∨ ∃ i, i < m ∧ P i ∧ r = a i)
theorem cv_MX_uq {m : Nat} {P : Nat → Prop} {a : Nat → Int32} {b r s : Int32} (h : cv_MX m P a b r) (k : cv_MX m P a b s) : r = s := by
  have L : ∀ {x y : Int32}, cv_MX m P a b x → cv_MX m P a b y → x ≤ y := by
    intro x y hx hy
    rcases hx.2.2 with e | ⟨i, hi, hP, e⟩
    · rw [e]; exact hy.1
    · rw [e]; exact hy.2.1 i hi hP
  exact Int32.le_antisymm (L h k) (L k h)
theorem cv_MX_congr {m : Nat} {P Q : Nat → Prop} {a : Nat → Int32} {b r : Int32} (e : ∀ i, i < m → (P i ↔ Q i)) (h : cv_MX m P a b r) : cv_MX m Q a b r := by
  refine ⟨h.1, fun i hi hQ => h.2.1 i hi ((e i hi).mpr hQ), ?_⟩
  rcases h.2.2 with z | ⟨i, hi, hP, z⟩
  · exact Or.inl z
  · exact Or.inr ⟨i, hi, (e i hi).mp hP, z⟩
end
section
/-! the component's helpers, walked -/
def cv_bI (b : Bool) : Int32 := cond b 1 0
theorem cv_g8 : ∀ g, g < 8 → ((nI g &&& 1 = 0 ↔ g % 2 = 0) ∧ (nI g &&& 2 = 0 ↔ g / 2 % 2 = 0) ∧ (nI g &&& 4 = 0 ↔ g / 4 % 2 = 0)) := by decide +kernel
theorem cv_s8 : ∀ g, g < 8 → ∀ d, d < 8 → nI g &&& nI d = nI d → ((g % 2 = 0 → d % 2 = 0) ∧ (g / 2 % 2 = 0 → d / 2 % 2 = 0) ∧ (g / 4 % 2 = 0 → d / 4 % 2 = 0)) := by decide +kernel
theorem cv_o8 : ∀ c, c < 8 → ∀ h, h < 8 → (nI c ||| nI h = nI (c ||| h) ∧ c ||| h < 8) := by decide +kernel
theorem cv_o8a : ∀ c, c < 8 → ∀ h, h < 8 → (((c ||| h) % 2 = 0 → c % 2 = 0) ∧ ((c ||| h) / 2 % 2 = 0 → c / 2 % 2 = 0) ∧ ((c ||| h) / 4 % 2 = 0 → c / 4 % 2 = 0)) := by decide +kernel
theorem cv_o8b : ∀ c, c < 8 → ∀ h, h < 8 → (((c ||| h) % 2 = 0 → h % 2 = 0) ∧ ((c ||| h) / 2 % 2 = 0 → h / 2 % 2 = 0) ∧ ((c ||| h) / 4 % 2 = 0 → h / 4 % 2 = 0)) := by decide +kernel
theorem cv_or2i : ∀ c, c < 2 → nI c ||| 2 = nI (c + 2) := by decide +kernel
theorem cv_or4i : ∀ c, c < 4 → nI c ||| 4 = nI (c + 4) := by decide +kernel
theorem cv_rem4 {p : Nat} (hp : p < 120) : nI p - nI p / 4 * 4 = nI (p % 4) := pk_rem (a := p) (d := 4) (by omega) (by decide) (by decide)
theorem cv_div4 {p : Nat} (hp : p < 120) : nI p / 4 = nI (p / 4) := pk_div (a := p) (d := 4) (by omega) (by decide) (by decide)
theorem cv_rem5 {p : Nat} (hp : p < 120) : nI (p / 4) - nI (p / 4) / 5 * 5 = nI (p / 4 % 5) := pk_rem (a := p / 4) (d := 5) (by omega) (by decide) (by decide)
theorem cv_div20 {p : Nat} (hp : p < 120) : nI p / 20 = nI (p / 20) := pk_div (a := p) (d := 20) (by omega) (by decide) (by decide)
theorem cv_bit {f r : Nat} (hf : f < 32768) (hr : r < 32) : ((nI f >>> (nI r &&& 31)) &&& 1) = 1 ↔ cv_bt f r = true := by
  have e1 : nI f >>> (nI r &&& 31) = nI (f / 2 ^ r) := pk_shrN (n := f) (by omega) (nI r &&& 31) r (s_l r hr)
  have hd : f / 2 ^ r ≤ f := Nat.div_le_self _ _
  have e2 : nI (f / 2 ^ r) &&& 1 = nI (f / 2 ^ r % 2) := pk_andN (n := f / 2 ^ r) (by omega) 1 (by decide)
  rw [e1, e2]
  have hm : f / 2 ^ r % 2 < 2 := Nat.mod_lt _ (by decide)
  have e3 : nI (f / 2 ^ r % 2) = 1 ↔ f / 2 ^ r % 2 = 1 := nI_eq (a := f / 2 ^ r % 2) (b := 1) (by omega) (by decide)
  rw [e3]
  exact (decide_eq_true_iff).symm
theorem cv_xr {post : Int32 → Prop} {u : SX} {p : Nat} (hp : p < 120) (h : post (nI (p % 4))) : wpX_region post u (nI p) := by
  obtain ⟨fc, pl, am, fa, nx, kp, cc, cs, gc, gs⟩ := u
  show ¬ (4 : Int32) = 0 ∧ post (nI p - nI p / 4 * 4)
  rw [cv_rem4 hp]
  exact ⟨by decide, h⟩
theorem cv_xk {post : Int32 → Prop} {u : SX} {p : Nat} (hp : p < 120) (h : post (nI (p / 4 % 5))) : wpX_kind post u (nI p) := by
  obtain ⟨fc, pl, am, fa, nx, kp, cc, cs, gc, gs⟩ := u
  show ¬ (4 : Int32) = 0 ∧ (¬ (5 : Int32) = 0 ∧ post ((nI p / 4) - (nI p / 4) / 5 * 5))
  rw [cv_div4 hp, cv_rem5 hp]
  exact ⟨by decide, by decide, h⟩
theorem cv_xm {post : Int32 → Prop} {u : SX} {p : Nat} (hp : p < 120) (h : post (nI (p / 20))) : wpX_month post u (nI p) := by
  obtain ⟨fc, pl, am, fa, nx, kp, cc, cs, gc, gs⟩ := u
  show ¬ (20 : Int32) = 0 ∧ post (nI p / 20)
  rw [cv_div20 hp]
  exact ⟨by decide, h⟩
theorem cv_g48 (r k m : Nat) : nI r + 4 * nI k + 20 * nI m = nI (r + 4 * k + 20 * m) := by
  rw [show (4 : Int32) = nI 4 from rfl, show (20 : Int32) = nI 20 from rfl, pk_mul, pk_mul, nI_add, nI_add]
theorem cv_xg {post : Int32 → Prop} {u : SX} {p g : Nat} (hp : p < 120) (hg : g < 8) (h : post (nI (cv_gr p g))) : wpX_group post u (nI p) (nI g) := by
  obtain ⟨fc, pl, am, fa, nx, kp, cc, cs, gc, gs⟩ := u
  obtain ⟨b1, b2, b3⟩ := cv_g8 g hg
  have E : ∀ r k m : Nat, r + 4 * k + 20 * m = cv_gr p g → wX_group_48 post (nI r) (nI k) (nI m) fc pl am fa nx kp cc cs gc gs := by
    intro r k m e
    show post (nI r + 4 * nI k + 20 * nI m)
    rw [cv_g48, e]
    exact h
  have E2 : ∀ r k : Nat, r + 4 * k + 20 * (if g / 4 % 2 = 0 then 0 else p / 20) = cv_gr p g → wX_group_31 post (nI p) (nI g) (nI r) (nI k) fc pl am fa nx kp cc cs gc gs := by
    intro r k e
    by_cases z : g / 4 % 2 = 0
    · rw [if_pos z] at e
      exact br_t (b3.mpr z) (E r k 0 e)
    · rw [if_neg z] at e
      exact br_f (fun y => z (b3.mp y)) (cv_xm hp (E r k _ e))
  have E1 : ∀ r : Nat, r + 4 * (if g / 2 % 2 = 0 then 0 else p / 4 % 5) + 20 * (if g / 4 % 2 = 0 then 0 else p / 20) = cv_gr p g → wX_group_15 post (nI p) (nI g) (nI r) fc pl am fa nx kp cc cs gc gs := by
    intro r e
    by_cases z : g / 2 % 2 = 0
    · rw [if_pos z] at e
      exact br_t (b2.mpr z) (E2 r 0 e)
    · rw [if_neg z] at e
      exact br_f (fun y => z (b2.mp y)) (cv_xk hp (E2 r _ e))
  have e : (if g % 2 = 0 then 0 else p % 4) + 4 * (if g / 2 % 2 = 0 then 0 else p / 4 % 5) + 20 * (if g / 4 % 2 = 0 then 0 else p / 20) = cv_gr p g := rfl
  by_cases z : g % 2 = 0
  · rw [if_pos z] at e
    exact br_t (b1.mpr z) (E1 0 e)
  · rw [if_neg z] at e
    exact br_f (fun y => z (b1.mp y)) (cv_xr hp (E1 _ e))
theorem cv_xc {post : Int32 → Prop} {u : SX} {x : Int32} (h : ∀ r, post r) : wpX_cells post u x := by
  obtain ⟨fc, pl, am, fa, nx, kp, cc, cs, gc, gs⟩ := u
  have E : ∀ z, wX_cells_25 post x z fc pl am fa nx kp cc cs gc gs := fun z => br_c (fun _ => h _) (fun _ => h _)
  have E1 : ∀ z, wX_cells_11 post x z fc pl am fa nx kp cc cs gc gs := fun z => br_c (fun _ => E _) (fun _ => E _)
  exact br_c (fun _ => E1 _) (fun _ => E1 _)
section
variable {fc : Int32} {pl am fa nx kp cc cs gc gs : Nat → Int32}
theorem cv_x81 {post : Int32 → Prop} {a b c : Bool} (h : post (cv_bI (a && b && c))) : wX_passes_81 post (cv_bI a) (cv_bI b) (cv_bI c) fc pl am fa nx kp cc cs gc gs := by
  cases a
  · exact br_t rfl h
  · refine br_f (by decide) ?_
    cases b
    · exact br_t rfl h
    · refine br_f (by decide) ?_
      cases c
      · exact br_t rfl h
      · exact br_f (by decide) h
theorem cv_x52 {post : Int32 → Prop} {p f d : Nat} {a b : Bool} (hp : p < 120) (hf : f < 32768) (hd : d < 8) (h : post (cv_bI (a && b && (decide (d / 4 % 2 = 0) || cv_bt f (9 + p / 20))))) : wX_passes_52 post (nI p) (nI f) (nI d) (cv_bI a) (cv_bI b) fc pl am fa nx kp cc cs gc gs := by
  by_cases z : d / 4 % 2 = 0
  · rw [decide_eq_true z] at h
    exact br_t ((cv_g8 d hd).2.2.mpr z) (cv_x81 (c := true) h)
  · rw [decide_eq_false z] at h
    refine br_f (fun y => z ((cv_g8 d hd).2.2.mp y)) (cv_xm hp ?_)
    try dsimp only
    have e : (9 : Int32) + nI (p / 20) = nI (9 + p / 20) := nI_add 9 (p / 20)
    rw [e]
    have hb := cv_bit (r := 9 + p / 20) hf (by omega)
    by_cases y : cv_bt f (9 + p / 20) = true
    · rw [y] at h
      exact br_t (hb.mpr y) (cv_x81 (c := true) h)
    · have y' : cv_bt f (9 + p / 20) = false := by simpa using y
      rw [y'] at h
      exact br_f (fun t => y (hb.mp t)) (cv_x81 (c := false) h)
theorem cv_x24 {post : Int32 → Prop} {p f d : Nat} {a : Bool} (hp : p < 120) (hf : f < 32768) (hd : d < 8) (h : post (cv_bI (a && (decide (d / 2 % 2 = 0) || cv_bt f (4 + p / 4 % 5)) && (decide (d / 4 % 2 = 0) || cv_bt f (9 + p / 20))))) : wX_passes_24 post (nI p) (nI f) (nI d) (cv_bI a) fc pl am fa nx kp cc cs gc gs := by
  by_cases z : d / 2 % 2 = 0
  · rw [decide_eq_true z] at h
    exact br_t ((cv_g8 d hd).2.1.mpr z) (cv_x52 (b := true) hp hf hd h)
  · rw [decide_eq_false z] at h
    refine br_f (fun y => z ((cv_g8 d hd).2.1.mp y)) (cv_xk hp ?_)
    try dsimp only
    have e : (4 : Int32) + nI (p / 4 % 5) = nI (4 + p / 4 % 5) := nI_add 4 (p / 4 % 5)
    rw [e]
    have hb := cv_bit (r := 4 + p / 4 % 5) hf (by omega)
    by_cases y : cv_bt f (4 + p / 4 % 5) = true
    · rw [y] at h
      exact br_t (hb.mpr y) (cv_x52 (b := true) hp hf hd h)
    · have y' : cv_bt f (4 + p / 4 % 5) = false := by simpa using y
      rw [y'] at h
      exact br_f (fun t => y (hb.mp t)) (cv_x52 (b := false) hp hf hd h)
theorem cv_xp {post : Int32 → Prop} {p f d : Nat} (hp : p < 120) (hf : f < 32768) (hd : d < 8) (h : post (cv_bI (cv_ps p f d))) : wpX_passes post (fc, pl, am, fa, nx, kp, cc, cs, gc, gs) (nI p) (nI f) (nI d) := by
  unfold cv_ps at h
  by_cases z : d % 2 = 0
  · rw [decide_eq_true z] at h
    exact br_t ((cv_g8 d hd).1.mpr z) (cv_x24 (a := true) hp hf hd h)
  · rw [decide_eq_false z] at h
    refine br_f (fun y => z ((cv_g8 d hd).1.mp y)) (cv_xr hp ?_)
    try dsimp only
    have hb := cv_bit (r := p % 4) hf (by omega)
    by_cases y : cv_bt f (p % 4) = true
    · rw [y] at h
      exact br_t (hb.mpr y) (cv_x24 (a := true) hp hf hd h)
    · have y' : cv_bt f (p % 4) = false := by simpa using y
      rw [y'] at h
      exact br_f (fun t => y (hb.mp t)) (cv_x24 (a := false) hp hf hd h)
theorem cv_xcu {post : Int32 → Prop} {f : Nat} (hf : f < 32768) (h : post (nI (cv_cu f))) : wpX_cuts post (fc, pl, am, fa, nx, kp, cc, cs, gc, gs) (nI f) := by
  have e9 : nI f >>> ((9 : Int32) &&& 31) = nI (f / 512) := pk_shrN (n := f) (by omega) _ 9 (by decide)
  have e4 : nI f >>> ((4 : Int32) &&& 31) = nI (f / 16) := pk_shrN (n := f) (by omega) _ 4 (by decide)
  have e4' : nI (f / 16) &&& 31 = nI (f / 16 % 32) := pk_andN (n := f / 16) (by omega) 5 (by decide)
  have e0 : nI f &&& 15 = nI (f % 16) := pk_andN (n := f) (by omega) 4 (by decide)
  have b9 : nI f >>> ((9 : Int32) &&& 31) = 63 ↔ f / 512 = 63 := by rw [e9]; exact nI_eq (a := f / 512) (b := 63) (by omega) (by decide)
  have b4 : (nI f >>> ((4 : Int32) &&& 31)) &&& 31 = 31 ↔ f / 16 % 32 = 31 := by rw [e4, e4']; exact nI_eq (a := f / 16 % 32) (b := 31) (by omega) (by decide)
  have b0 : nI f &&& 15 = 15 ↔ f % 16 = 15 := by rw [e0]; exact nI_eq (a := f % 16) (b := 15) (by omega) (by decide)
  have E : ∀ c, c < 4 → c + (if f / 512 = 63 then 0 else 4) = cv_cu f → wX_cuts_33 post (nI f) (nI c) fc pl am fa nx kp cc cs gc gs := by
    intro c hc e
    by_cases z : f / 512 = 63
    · rw [if_pos z] at e
      refine br_t (b9.mpr z) ?_
      rw [← e] at h
      exact h
    · rw [if_neg z] at e
      refine br_f (fun t => z (b9.mp t)) ?_
      rw [cv_or4i c hc, e]
      exact h
  have E1 : ∀ c, c < 2 → c + (if f / 16 % 32 = 31 then 0 else 2) + (if f / 512 = 63 then 0 else 4) = cv_cu f → wX_cuts_14 post (nI f) (nI c) fc pl am fa nx kp cc cs gc gs := by
    intro c hc e
    by_cases z : f / 16 % 32 = 31
    · rw [if_pos z] at e
      exact br_t (b4.mpr z) (E c (by omega) e)
    · rw [if_neg z] at e
      refine br_f (fun t => z (b4.mp t)) ?_
      rw [cv_or2i c hc]
      exact E (c + 2) (by omega) e
  have e : (if f % 16 = 15 then 0 else 1) + (if f / 16 % 32 = 31 then 0 else 2) + (if f / 512 = 63 then 0 else 4) = cv_cu f := rfl
  by_cases z : f % 16 = 15
  · rw [if_pos z] at e
    exact br_t (b0.mpr z) (E1 0 (by omega) e)
  · rw [if_neg z] at e
    exact br_f (fun t => z (b0.mp t)) (E1 1 (by omega) e)
end
end
section
/-! the component's loops, walked -/
section
variable {fc : Int32} {pl am fa nx kp cc cs gc gs : Nat → Int32}
def cv_Sm (kp : Nat → Int32) (x1 r : Int32) : Prop := r = -1 ∨ ∃ g, g < 8 ∧ r = nI g ∧ ¬ kp g = 0 ∧ nI g &&& x1 = x1
theorem cv_xs4 {post : Int32 → Prop} {x1 : Int32} (h : ∀ r, cv_Sm kp x1 r → post r) : ∀ d i, i + d = 8 → ∀ x2, cv_Sm kp x1 x2 → wX_smallest_4 post x1 fc pl am fa nx kp cc cs gc gs (d + 1) x2 (nI i) := by
  intro d
  induction d with
  | zero =>
    intro i hi x2 hx
    obtain rfl : i = 8 := by omega
    exact br_t (Int32.le_refl _) (h x2 hx)
  | succ d ih =>
    intro i hi x2 hx
    have hn : ¬ (8 : Int32) ≤ nI i := nI_ge (b := 8) (by omega) (by decide)
    have hc : (nI i).toNatClampNeg = i := nI_clamp (by omega)
    refine br_f hn (And.intro (vp_in_nI (by omega) (by decide)) ?_)
    rw [hc]
    by_cases z : kp i = 0
    · exact br_t z (nm_r (nI_1 i) (ih (i + 1) (by omega) x2 hx))
    · refine br_f z ?_
      by_cases y : nI i &&& x1 = x1
      · have hx' : cv_Sm kp x1 (nI i) := Or.inr ⟨i, by omega, rfl, z, y⟩
        refine br_t y (br_c (fun _ => nm_r (nI_1 i) (ih (i + 1) (by omega) _ hx')) (fun _ => ?_))
        exact cv_xc (fun r => cv_xc (fun r' => br_c (fun _ => nm_r (nI_1 i) (ih (i + 1) (by omega) _ hx)) (fun _ => nm_r (nI_1 i) (ih (i + 1) (by omega) _ hx'))))
      · exact br_f y (nm_r (nI_1 i) (ih (i + 1) (by omega) x2 hx))
theorem cv_xs {post : Int32 → Prop} {x1 : Int32} (h : ∀ r, cv_Sm kp x1 r → post r) : wpX_smallest post (fc, pl, am, fa, nx, kp, cc, cs, gc, gs) x1 :=
  Exists.intro 9 (cv_xs4 h 8 0 rfl (-1) (Or.inl rfl))
theorem cv_xw41 {post : Int32 → Prop} {J4 J18 : Int32 → Int32 → Prop} {x1 x2 x3 x4 : Int32} {i : Nat} (h : ∀ x, J18 x (nI (i + 1))) : wX_workWith_41 post J4 J18 x1 x2 x3 x4 (nI i) fc pl am fa nx kp cc cs gc gs :=
  br_c (fun _ => cv_xc (fun r => br_c (fun _ => nm_r (nI_1 i) (h _)) (fun _ => cv_xc (fun r' => nm_r (nI_1 i) (h _))))) (fun _ => nm_r (nI_1 i) (h _))
theorem cv_xw18 {post : Int32 → Prop} {J4 : Int32 → Int32 → Prop} {x1 x2 x3 : Int32} (h : ∀ x, J4 x (x3 + 1)) : ∀ d i, i + d = 8 → ∀ x4, wX_workWith_18 post J4 x1 x2 x3 fc pl am fa nx kp cc cs gc gs (d + 1) x4 (nI i) := by
  intro d
  induction d with
  | zero =>
    intro i hi x4
    obtain rfl : i = 8 := by omega
    exact br_t (Int32.le_refl _) (nm_e (nm_e (h _)))
  | succ d ih =>
    intro i hi x4
    have hn : ¬ (8 : Int32) ≤ nI i := nI_ge (b := 8) (by omega) (by decide)
    refine br_f hn (And.intro (vp_in_nI (by omega) (by decide)) ?_)
    exact br_c (fun _ => br_c (fun _ => cv_xw41 (fun x => ih (i + 1) (by omega) x)) (fun _ => nm_r (nI_1 i) (ih (i + 1) (by omega) x4))) (fun _ => cv_xw41 (fun x => ih (i + 1) (by omega) x))
theorem cv_xw4 {post : Int32 → Prop} {x1 : Int32} (h : ∀ r, post r) : ∀ d i, i + d = 8 → ∀ x2, wX_workWith_4 post x1 fc pl am fa nx kp cc cs gc gs (d + 1) x2 (nI i) := by
  intro d
  induction d with
  | zero =>
    intro i hi x2
    obtain rfl : i = 8 := by omega
    exact br_t (Int32.le_refl _) (h _)
  | succ d ih =>
    intro i hi x2
    have hn : ¬ (8 : Int32) ≤ nI i := nI_ge (b := 8) (by omega) (by decide)
    refine br_f hn (Exists.intro 9 (cv_xw18 (fun x => ?_) 8 0 rfl 160))
    rw [nI_1 i]
    exact ih (i + 1) (by omega) x
theorem cv_xw {post : Int32 → Prop} {x1 : Int32} (h : ∀ r, post r) : wpX_workWith post (fc, pl, am, fa, nx, kp, cc, cs, gc, gs) x1 :=
  Exists.intro 9 (cv_xw4 h 8 0 rfl 0)
theorem cv_i120 (g j : Nat) : (120 : Int32) * nI g + nI j = nI (120 * g + j) := by
  rw [show (120 : Int32) = nI 120 from rfl, pk_mul, nI_add]
theorem cv_xe3 {post : SX → Prop} {p : Nat} {w1 w2 : Int32} (hp : p < 120) (h : post (fc, pl, am, fa, nx, kp, cv_en kp p w1 cc 8, cv_en kp p w2 cs 8, gc, gs)) : ∀ d i, i + d = 8 → wX_enter_3 post (nI p) w1 w2 fc (d + 1) (nI i) pl am fa nx kp (cv_en kp p w1 cc i) (cv_en kp p w2 cs i) gc gs := by
  intro d
  induction d with
  | zero =>
    intro i hi
    obtain rfl : i = 8 := by omega
    exact br_t (Int32.le_refl _) h
  | succ d ih =>
    intro i hi
    have hn : ¬ (8 : Int32) ≤ nI i := nI_ge (b := 8) (by omega) (by decide)
    have hc : (nI i).toNatClampNeg = i := nI_clamp (by omega)
    have K := ih (i + 1) (by omega)
    refine br_f hn (And.intro (vp_in_nI (by omega) (by decide)) ?_)
    rw [hc]
    by_cases z : kp i = 0
    · rw [cv_en_f z, cv_en_f z] at K
      exact br_t z (nm_r (nI_1 i) K)
    · rw [cv_en_t z, cv_en_t z] at K
      have hl := cv_gr_lt i hp
      have hin : vp_in (nI (120 * i + cv_gr p i)) 960 := vp_in_nI (by omega) (by decide)
      have hcl : (nI (120 * i + cv_gr p i)).toNatClampNeg = 120 * i + cv_gr p i := nI_clamp (by omega)
      refine br_f z (cv_xg hp (by omega) (nm_r (cv_i120 i (cv_gr p i)) ?_))
      rw [hcl]
      exact And.intro hin (And.intro hin (nm_e (And.intro hin (And.intro hin (nm_e (nm_r (nI_1 i) K))))))
theorem cv_xe {post : SX → Prop} {p : Nat} {w1 w2 : Int32} (hp : p < 120) (h : post (fc, pl, am, fa, nx, kp, cv_en kp p w1 cc 8, cv_en kp p w2 cs 8, gc, gs)) : wpX_enter post (fc, pl, am, fa, nx, kp, cc, cs, gc, gs) (nI p) w1 w2 :=
  Exists.intro 9 (cv_xe3 hp h 8 0 rfl)
theorem cv_xf40 {post : SX → Prop} {n g : Nat} (hn : n ≤ 40) (hq : ∀ i, i < n → cv_q pl i < 120 ∧ pl i = nI (cv_q pl i)) (hg : g < 8) (h : post (nI n, pl, am, fa, nx, kp, cv_fi pl g (fun _ => 1) cc n, cv_fi pl g am cs n, gc, gs)) : ∀ d i, i + d = n → wX_fill_40 post (nI g) (nI n) (d + 1) (nI i) pl am fa nx kp (cv_fi pl g (fun _ => 1) cc i) (cv_fi pl g am cs i) gc gs := by
  intro d
  induction d with
  | zero =>
    intro i hi
    obtain rfl : i = n := by omega
    exact br_t (Int32.le_refl _) h
  | succ d ih =>
    intro i hi
    have hni : ¬ nI n ≤ nI i := nI_ge (by omega) (by omega)
    have hc : (nI i).toNatClampNeg = i := nI_clamp (by omega)
    have K := ih (i + 1) (by omega)
    rw [cv_fi_t, cv_fi_t] at K
    have hi40 : vp_in (nI i) 40 := vp_in_nI (by omega) (by decide)
    obtain ⟨hp, ep⟩ := hq i (by omega)
    have hl := cv_gr_lt g hp
    have hin : vp_in (nI (120 * g + cv_gr (cv_q pl i) g)) 960 := vp_in_nI (by omega) (by decide)
    have hcl : (nI (120 * g + cv_gr (cv_q pl i) g)).toNatClampNeg = 120 * g + cv_gr (cv_q pl i) g := nI_clamp (by omega)
    refine br_f hni (And.intro hi40 ?_)
    rw [hc, ep]
    refine cv_xg hp hg (nm_r (cv_i120 g (cv_gr (cv_q pl i) g)) ?_)
    rw [hcl]
    exact And.intro hin (And.intro hin (nm_e (And.intro hin (And.intro hi40 (And.intro hin (nm_e (nm_r (nI_1 i) K)))))))
theorem cv_xf2 {post : SX → Prop} {n g : Nat} (hn : n ≤ 40) (hq : ∀ i, i < n → cv_q pl i < 120 ∧ pl i = nI (cv_q pl i)) (hg : g < 8) (h : post (nI n, pl, am, fa, nx, kp, cv_fi pl g (fun _ => 1) (cv_fl (120 * g) 0 cc 120) n, cv_fi pl g am (cv_fl (120 * g) 0 cs 120) n, gc, gs)) : ∀ d i, i + d = 120 → wX_fill_2 post (nI g) (nI n) (d + 1) (nI i) pl am fa nx kp (cv_fl (120 * g) 0 cc i) (cv_fl (120 * g) 0 cs i) gc gs := by
  intro d
  induction d with
  | zero =>
    intro i hi
    obtain rfl : i = 120 := by omega
    exact br_t (Int32.le_refl _) (Exists.intro (n + 1) (cv_xf40 hn hq hg h n 0 (by omega)))
  | succ d ih =>
    intro i hi
    have hni : ¬ (120 : Int32) ≤ nI i := nI_ge (b := 120) (by omega) (by decide)
    have hin : vp_in (nI (120 * g + i)) 960 := vp_in_nI (by omega) (by decide)
    have hcl : (nI (120 * g + i)).toNatClampNeg = 120 * g + i := nI_clamp (by omega)
    refine br_f hni ?_
    rw [cv_i120 g i, hcl]
    exact And.intro hin (nm_e (And.intro hin (nm_e (nm_r (nI_1 i) (ih (i + 1) (by omega))))))
theorem cv_xf {post : SX → Prop} {n g : Nat} (hn : n ≤ 40) (hq : ∀ i, i < n → cv_q pl i < 120 ∧ pl i = nI (cv_q pl i)) (hg : g < 8) (h : post (nI n, pl, am, fa, nx, kp, cv_fi pl g (fun _ => 1) (cv_fl (120 * g) 0 cc 120) n, cv_fi pl g am (cv_fl (120 * g) 0 cs 120) n, gc, gs)) : wpX_fill post (nI n, pl, am, fa, nx, kp, cc, cs, gc, gs) (nI g) :=
  Exists.intro 121 (cv_xf2 hn hq hg h 120 0 rfl)
/-! gather -/
theorem cv_xn {post : SX → Prop} {j : Nat} {w1 w2 : Int32} (hj : j < 120) (h : post (fc, pl, am, fa, nx, kp, cc, cs, upd gc j (gc j + w1), upd gs j (gs j + w2))) : wpX_note post (fc, pl, am, fa, nx, kp, cc, cs, gc, gs) (nI j) w1 w2 := by
  have hin : vp_in (nI j) 120 := vp_in_nI hj (by decide)
  have hc : (nI j).toNatClampNeg = j := nI_clamp (by omega)
  refine And.intro hin (And.intro hin (nm_e (And.intro hin (And.intro hin (nm_e ?_)))))
  rw [hc]
  exact h
def cv_gC (cc w : Nat → Int32) (g f d h : Nat) (a : Nat → Int32) : Nat → Nat → Int32 := cv_sc (fun p => !decide (cc (120 * g + p) ≤ 0) && cv_ps p f d) (fun p => cv_gr p h) (fun p => w (120 * g + p)) a
theorem cv_gC_t {w a : Nat → Int32} {g f d h i : Nat} (h1 : ¬ cc (120 * g + i) ≤ 0) (h2 : cv_ps i f d = true) : cv_gC cc w g f d h a (i + 1) = upd (cv_gC cc w g f d h a i) (cv_gr i h) (cv_gC cc w g f d h a i (cv_gr i h) + w (120 * g + i)) := cv_sc_t (by rw [decide_eq_false h1, h2]; rfl)
theorem cv_gC_f1 {w a : Nat → Int32} {g f d h i : Nat} (h1 : cc (120 * g + i) ≤ 0) : cv_gC cc w g f d h a (i + 1) = cv_gC cc w g f d h a i := cv_sc_f (by rw [decide_eq_true h1]; rfl)
theorem cv_gC_f2 {w a : Nat → Int32} {g f d h i : Nat} (h2 : cv_ps i f d = false) : cv_gC cc w g f d h a (i + 1) = cv_gC cc w g f d h a i := cv_sc_f (by rw [h2, Bool.and_false])
theorem cv_x115 {post : SX → Prop} {g f d h : Nat} (hg : g < 8) (hf : f < 32768) (hd : d < 8) (hh : h < 8) (a b : Nat → Int32) (H : post (fc, pl, am, fa, nx, kp, cc, cs, cv_gC cc cc g f d h a 120, cv_gC cc cs g f d h b 120)) : ∀ e i, i + e = 120 → wX_gather_115 post (nI h) (nI f) (nI d) (nI g) (e + 1) (nI i) fc pl am fa nx kp cc cs (cv_gC cc cc g f d h a i) (cv_gC cc cs g f d h b i) := by
  intro e
  induction e with
  | zero =>
    intro i hi
    obtain rfl : i = 120 := by omega
    exact br_t (Int32.le_refl _) H
  | succ e ih =>
    intro i hi
    have hni : ¬ (120 : Int32) ≤ nI i := nI_ge (b := 120) (by omega) (by decide)
    have hin : vp_in (nI (120 * g + i)) 960 := vp_in_nI (by omega) (by decide)
    have hcl : (nI (120 * g + i)).toNatClampNeg = 120 * g + i := nI_clamp (by omega)
    have hi120 : i < 120 := by omega
    have K := ih (i + 1) (by omega)
    refine br_f hni ?_
    rw [cv_i120 g i, hcl]
    refine And.intro hin ?_
    by_cases z : cc (120 * g + i) ≤ 0
    · rw [cv_gC_f1 z, cv_gC_f1 z] at K
      exact br_t z (nm_r (nI_1 i) K)
    · refine br_f z (cv_xp hi120 hf hd ?_)
      try dsimp only
      by_cases y : cv_ps i f d = true
      · rw [cv_gC_t z y, cv_gC_t z y] at K
        rw [y]
        exact br_f (by decide) (cv_xg hi120 hh (And.intro hin (And.intro hin (cv_xn (cv_gr_lt h hi120) (nm_r (nI_1 i) K)))))
      · have y' : cv_ps i f d = false := by simpa using y
        rw [cv_gC_f2 y', cv_gC_f2 y'] at K
        rw [y']
        exact br_t rfl (nm_r (nI_1 i) K)
def cv_gF (pl w : Nat → Int32) (f h : Nat) (a : Nat → Int32) : Nat → Nat → Int32 := cv_sc (fun i => cv_ps (cv_q pl i) f 7) (fun i => cv_gr (cv_q pl i) h) w a
theorem cv_gF_t {w a : Nat → Int32} {f h i : Nat} (h2 : cv_ps (cv_q pl i) f 7 = true) : cv_gF pl w f h a (i + 1) = upd (cv_gF pl w f h a i) (cv_gr (cv_q pl i) h) (cv_gF pl w f h a i (cv_gr (cv_q pl i) h) + w i) := cv_sc_t h2
theorem cv_gF_f {w a : Nat → Int32} {f h i : Nat} (h2 : cv_ps (cv_q pl i) f 7 = false) : cv_gF pl w f h a (i + 1) = cv_gF pl w f h a i := cv_sc_f h2
theorem cv_x51 {post : SX → Prop} {n f h : Nat} (hn : n ≤ 40) (hq : ∀ i, i < n → cv_q pl i < 120 ∧ pl i = nI (cv_q pl i)) (hf : f < 32768) (hh : h < 8) (a b : Nat → Int32) (H : post (nI n, pl, am, fa, nx, kp, cc, cs, cv_gF pl (fun _ => 1) f h a n, cv_gF pl am f h b n)) : ∀ e i, i + e = n → wX_gather_51 post (nI h) (nI f) (e + 1) (nI i) (nI n) pl am fa nx kp cc cs (cv_gF pl (fun _ => 1) f h a i) (cv_gF pl am f h b i) := by
  intro e
  induction e with
  | zero =>
    intro i hi
    obtain rfl : i = n := by omega
    exact br_t (Int32.le_refl _) H
  | succ e ih =>
    intro i hi
    have hni : ¬ nI n ≤ nI i := nI_ge (by omega) (by omega)
    have hc : (nI i).toNatClampNeg = i := nI_clamp (by omega)
    have hi40 : vp_in (nI i) 40 := vp_in_nI (by omega) (by decide)
    obtain ⟨hp, ep⟩ := hq i (by omega)
    have K := ih (i + 1) (by omega)
    refine br_f hni (And.intro hi40 ?_)
    rw [hc, ep]
    refine cv_xp (d := 7) hp hf (by decide) ?_
    try dsimp only
    by_cases y : cv_ps (cv_q pl i) f 7 = true
    · rw [cv_gF_t y, cv_gF_t y] at K
      rw [y]
      exact br_f (by decide) (And.intro hi40 (cv_xg hp hh (And.intro hi40 (cv_xn (cv_gr_lt h hp) (nm_r (nI_1 i) K)))))
    · have y' : cv_ps (cv_q pl i) f 7 = false := by simpa using y
      rw [cv_gF_f y', cv_gF_f y'] at K
      rw [y']
      exact br_t rfl (nm_r (nI_1 i) K)
theorem cv_ifc {a b : Prop} {da : Decidable a} {db : Decidable b} {x : Int32} : (if a ∧ b then x else 0) = (if b ∧ a then x else 0) := by
  by_cases z : a ∧ b
  · rw [if_pos z, if_pos ⟨z.2, z.1⟩]
  · rw [if_neg z, if_neg (fun t => z ⟨t.2, t.1⟩)]
theorem cv_xga {post : SX → Prop} {n f h : Nat} (hn : n ≤ 40) (hq : ∀ i, i < n → cv_q pl i < 120 ∧ pl i = nI (cv_q pl i)) (hf : f < 32768) (hh : h < 8) (C1 : cv_CW n pl (fun _ => 1) kp cc) (C2 : cv_CW n pl am kp cs)
    (H : ∀ gc' gs' : Nat → Int32, (∀ j, j < 120 → gc' j = cv_G pl (fun _ => 1) n h f j) → (∀ j, j < 120 → gs' j = cv_G pl am n h f j) → post (nI n, pl, am, fa, nx, kp, cc, cs, gc', gs')) : wpX_gather post (nI n, pl, am, fa, nx, kp, cc, cs, gc, gs) (nI h) (nI f) := by
  have L : ∀ d i, i + d = 120 → wX_gather_2 post (nI h) (nI f) (nI n) (d + 1) (nI i) pl am fa nx kp cc cs (cv_fl 0 0 gc i) (cv_fl 0 0 gs i) := by
    intro d
    induction d with
    | zero =>
      intro i hi
      obtain rfl : i = 120 := by omega
      obtain ⟨eo, lo⟩ := cv_o8 (cv_cu f) (cv_cu_lt f) h hh
      have s1 : cv_sub (cv_cu f) (cv_cu f ||| h) := cv_o8a (cv_cu f) (cv_cu_lt f) h hh
      have s2 : cv_sub h (cv_cu f ||| h) := cv_o8b (cv_cu f) (cv_cu_lt f) h hh
      refine br_t (Int32.le_refl _) (cv_xcu hf (nm_r eo (cv_xs (fun r hr => ?_))))
      rcases hr with rfl | ⟨g, hg, rfl, hk, hs⟩
      · refine br_f (by decide) (Exists.intro (n + 1) (cv_x51 hn hq hf hh (cv_fl 0 0 gc 120) (cv_fl 0 0 gs 120) (H _ _ ?_ ?_) n 0 (by omega)))
        · intro j hj
          refine (cv_sc_eq _ _ _ _ _ n).trans ?_
          rw [cv_fl0_in 0 gc hj, Int32.zero_add]
          refine cv_sm_congr n (fun i _ => ?_)
          exact cv_ifc
        · intro j hj
          refine (cv_sc_eq _ _ _ _ _ n).trans ?_
          rw [cv_fl0_in 0 gs hj, Int32.zero_add]
          refine cv_sm_congr n (fun i _ => ?_)
          exact cv_ifc
      · have s3 : cv_sub (cv_cu f ||| h) g := cv_s8 g hg _ lo hs
        refine br_t (nI_pos' (by omega)) (Exists.intro 121 (cv_x115 hg hf lo hh (cv_fl 0 0 gc 120) (cv_fl 0 0 gs 120) (H _ _ ?_ ?_) 120 0 rfl))
        · intro j hj
          refine (cv_sc_eq _ _ _ _ _ 120).trans ?_
          rw [cv_fl0_in 0 gc hj, Int32.zero_add]
          refine Eq.trans (cv_sm_congr 120 (fun p hp => ?_)) (cv_gath (fun i hi => (hq i hi).1) s3 s2 s1 (fun _ => 1) (fun p => !decide (cc (120 * g + p) ≤ 0)) (fun p hp hc => ?_) j)
          · try dsimp only
            rw [C1 g hg hk p hp]
          · have hc' : cc (120 * g + p) ≤ 0 := by simpa using hc
            rw [C1 g hg hk p hp] at hc'
            exact cv_cell_0 (by omega) hc' _
        · intro j hj
          refine (cv_sc_eq _ _ _ _ _ 120).trans ?_
          rw [cv_fl0_in 0 gs hj, Int32.zero_add]
          refine Eq.trans (cv_sm_congr 120 (fun p hp => ?_)) (cv_gath (fun i hi => (hq i hi).1) s3 s2 s1 am (fun p => !decide (cc (120 * g + p) ≤ 0)) (fun p hp hc => ?_) j)
          · try dsimp only
            rw [C2 g hg hk p hp]
          · have hc' : cc (120 * g + p) ≤ 0 := by simpa using hc
            rw [C1 g hg hk p hp] at hc'
            exact cv_cell_0 (by omega) hc' _
    | succ d ih =>
      intro i hi
      have hni : ¬ (120 : Int32) ≤ nI i := nI_ge (b := 120) (by omega) (by decide)
      have hin : vp_in (nI i) 120 := vp_in_nI (by omega) (by decide)
      have hc : (nI i).toNatClampNeg = i := nI_clamp (by omega)
      have K := ih (i + 1) (by omega)
      refine br_f hni ?_
      rw [hc]
      exact And.intro hin (nm_r (cv_fl0 0 gc i) (And.intro hin (nm_r (cv_fl0 0 gs i) (nm_r (nI_1 i) K))))
  exact Exists.intro 121 (L 120 0 rfl)
end
end
section
/-! the component's lists, folds over the groups, plan -/
section
variable {fc : Int32} {pl am fa nx kp cc cs gc gs : Nat → Int32}
theorem cv_xm44 {post : Int32 → Prop} {J : Int32 → Int32 → Int32 → Prop} {m k : Nat} {z e : Int32} (hm : m < 40) (en : nx m = e) (h : J z e (nI (k + 1))) : wX_greatestAt_44 post J (nI m) (nI k) z fc pl am fa nx kp cc cs gc gs := by
  have hc : (nI m).toNatClampNeg = m := nI_clamp (by omega)
  refine And.intro (vp_in_nI hm (by decide)) ?_
  rw [hc]
  exact nm_r en (nm_r (nI_1 k) h)
theorem cv_xm13 {post : Int32 → Prop} {n p : Nat} (hn : n ≤ 40) (hx : ∀ i, i < n → nx i = cv_ls pl i (cv_q pl i)) : ∀ m, m ≤ n → ∀ k fuel x2, k + m ≤ 40 → m < fuel → (∀ r, cv_MX m (fun i => cv_q pl i = p) am x2 r → post r) → wX_greatestAt_13 post fc pl am fa nx kp cc cs gc gs fuel x2 (cv_ls pl m p) (nI k) := by
  intro m
  induction m with
  | zero =>
    intro _ k fuel x2 hk hf h
    obtain ⟨f, rfl⟩ : ∃ f, fuel = f + 1 := ⟨fuel - 1, by omega⟩
    have P : post x2 := h x2 ⟨Int32.le_refl _, fun i hi => absurd hi (Nat.not_lt_zero i), Or.inl rfl⟩
    exact br_c (fun _ => P) (fun _ => br_t (show (-1 : Int32) < 0 by decide) P)
  | succ m ih =>
    intro hm k fuel x2 hk hf h
    have e : cv_ls pl (m + 1) p = (if cv_q pl m = p then nI m else cv_ls pl m p) := rfl
    rw [e]
    by_cases z : cv_q pl m = p
    · rw [if_pos z]
      obtain ⟨f, rfl⟩ : ∃ f, fuel = f + 1 := ⟨fuel - 1, by omega⟩
      have hk40 : ¬ (40 : Int32) ≤ nI k := nI_ge (b := 40) (by omega) (by decide)
      have hc : (nI m).toNatClampNeg = m := nI_clamp (by omega)
      have hin : vp_in (nI m) 40 := vp_in_nI (by omega) (by decide)
      have en : nx m = cv_ls pl m p := by rw [hx m (by omega), z]
      refine br_f hk40 (br_f (nI_pos (by omega)) (And.intro hin ?_))
      rw [hc]
      by_cases y : am m ≤ x2
      · refine br_t y (cv_xm44 (by omega) en (ih (by omega) (k + 1) f x2 (by omega) (by omega) (fun r hr => h r ?_)))
        refine ⟨hr.1, fun i hi hP => ?_, ?_⟩
        · by_cases t : i = m
          · subst t; exact Int32.le_trans y hr.1
          · exact hr.2.1 i (by omega) hP
        · rcases hr.2.2 with t | ⟨i, hi, hP, t⟩
          · exact Or.inl t
          · exact Or.inr ⟨i, by omega, hP, t⟩
      · have y' : x2 ≤ am m := Int32.le_of_lt (Int32.not_le.mp y)
        refine br_f y (And.intro hin (cv_xm44 (by omega) en (ih (by omega) (k + 1) f (am m) (by omega) (by omega) (fun r hr => h r ?_))))
        refine ⟨Int32.le_trans y' hr.1, fun i hi hP => ?_, ?_⟩
        · by_cases t : i = m
          · subst t; exact hr.1
          · exact hr.2.1 i (by omega) hP
        · rcases hr.2.2 with t | ⟨i, hi, hP, t⟩
          · exact Or.inr ⟨m, by omega, z, t⟩
          · exact Or.inr ⟨i, by omega, hP, t⟩
    · rw [if_neg z]
      refine ih (by omega) k fuel x2 (by omega) (by omega) (fun r hr => h r ?_)
      refine ⟨hr.1, fun i hi hP => ?_, ?_⟩
      · by_cases t : i = m
        · subst t; exact absurd hP z
        · exact hr.2.1 i (by omega) hP
      · rcases hr.2.2 with t | ⟨i, hi, hP, t⟩
        · exact Or.inl t
        · exact Or.inr ⟨i, by omega, hP, t⟩
theorem cv_xma {post : Int32 → Prop} {n p : Nat} (hn : n ≤ 40) (hx : ∀ i, i < n → nx i = cv_ls pl i (cv_q pl i)) (hp : p < 120) (hfa : fa p = cv_ls pl n p) (h : ∀ r, cv_MX n (fun i => cv_q pl i = p) am (-4000000) r → post r) : wpX_greatestAt post (fc, pl, am, fa, nx, kp, cc, cs, gc, gs) (nI p) := by
  have hc : (nI p).toNatClampNeg = p := nI_clamp (by omega)
  refine And.intro (vp_in_nI hp (by decide)) ?_
  rw [hc]
  exact nm_r hfa (Exists.intro (n + 1) (cv_xm13 hn hx n (Nat.le_refl n) 0 (n + 1) (-4000000) (by omega) (by omega) h))
theorem cv_x16 {post : Int32 → Prop} {n f : Nat} (hn : n ≤ 40) (hx : ∀ i, i < n → nx i = cv_ls pl i (cv_q pl i)) (hfa : ∀ p, p < 120 → fa p = cv_ls pl n p) (hf : f < 32768) (h : ∀ r, cv_MX n (fun i => cv_q pl i < 120 ∧ cv_ps (cv_q pl i) f 7 = true) am (-4000000) r → post r) : ∀ d p, p + d = 120 → ∀ x2, cv_MX n (fun i => cv_q pl i < p ∧ cv_ps (cv_q pl i) f 7 = true) am (-4000000) x2 → wX_greatest_16 post (nI f) fc pl am fa nx kp cc cs gc gs (d + 1) x2 (nI p) := by
  intro d
  induction d with
  | zero =>
    intro p hp x2 hx2
    obtain rfl : p = 120 := by omega
    exact br_t (Int32.le_refl _) (h x2 hx2)
  | succ d ih =>
    intro p hp x2 hx2
    have hn120 : ¬ (120 : Int32) ≤ nI p := nI_ge (b := 120) (by omega) (by decide)
    have hc : (nI p).toNatClampNeg = p := nI_clamp (by omega)
    have hp120 : p < 120 := by omega
    refine br_f hn120 (And.intro (vp_in_nI hp120 (by decide)) ?_)
    rw [hc]
    by_cases z : fa p < 0
    · refine br_t z (nm_r (nI_1 p) (ih (p + 1) (by omega) x2 (cv_MX_congr (fun i hi => ?_) hx2)))
      rw [hfa p hp120] at z
      have hne := cv_ls_neg n (by omega) z i hi
      exact ⟨fun t => ⟨by omega, t.2⟩, fun t => ⟨by omega, t.2⟩⟩
    · refine br_f z (cv_xp (d := 7) hp120 hf (by decide) ?_)
      by_cases y : cv_ps p f 7 = true
      · rw [y]
        refine br_f (by decide) (cv_xma hn hx hp120 (hfa p hp120) (fun r hr => ?_))
        by_cases t : r ≤ x2
        · refine br_t t (nm_r (nI_1 p) (ih (p + 1) (by omega) x2 ⟨hx2.1, fun i hi hP => ?_, ?_⟩))
          · by_cases s : cv_q pl i = p
            · exact Int32.le_trans (hr.2.1 i hi s) t
            · exact hx2.2.1 i hi ⟨by omega, hP.2⟩
          · rcases hx2.2.2 with s | ⟨i, hi, hP, s⟩
            · exact Or.inl s
            · exact Or.inr ⟨i, hi, ⟨by omega, hP.2⟩, s⟩
        · have t' : x2 ≤ r := Int32.le_of_lt (Int32.not_le.mp t)
          refine br_f t (nm_r (nI_1 p) (ih (p + 1) (by omega) r ⟨hr.1, fun i hi hP => ?_, ?_⟩))
          · by_cases s : cv_q pl i = p
            · exact hr.2.1 i hi s
            · exact Int32.le_trans (hx2.2.1 i hi ⟨by omega, hP.2⟩) t'
          · rcases hr.2.2 with s | ⟨i, hi, hP, s⟩
            · exact Or.inl s
            · exact Or.inr ⟨i, hi, ⟨by omega, by rw [hP]; exact y⟩, s⟩
      · have y' : cv_ps p f 7 = false := by simpa using y
        rw [y']
        refine br_t rfl (nm_r (nI_1 p) (ih (p + 1) (by omega) x2 (cv_MX_congr (fun i hi => ?_) hx2)))
        refine ⟨fun t => ⟨by omega, t.2⟩, fun t => ⟨?_, t.2⟩⟩
        have hne : cv_q pl i ≠ p := fun s => y (by rw [← s]; exact t.2)
        have := t.1
        omega
theorem cv_x30 {post : Int32 → SX → Prop} {A : Nat → Int32} (hA : ∀ j, j < 120 → gc j = A j) (h : post (cv_cg A 120) (fc, pl, am, fa, nx, kp, cc, cs, gc, gs)) : ∀ d i, i + d = 120 → wX_groups_30 post fc pl am fa nx kp cc cs gc gs (d + 1) (cv_cg A i) (nI i) := by
  intro d
  induction d with
  | zero =>
    intro i hi
    obtain rfl : i = 120 := by omega
    exact br_t (Int32.le_refl _) h
  | succ d ih =>
    intro i hi
    have hni : ¬ (120 : Int32) ≤ nI i := nI_ge (b := 120) (by omega) (by decide)
    have hc : (nI i).toNatClampNeg = i := nI_clamp (by omega)
    have K := ih (i + 1) (by omega)
    have e : cv_cg A (i + 1) = (if A i ≤ 0 then cv_cg A i else cv_cg A i + 1) := rfl
    refine br_f hni (And.intro (vp_in_nI (by omega) (by decide)) ?_)
    rw [hc, hA i (by omega)]
    by_cases z : A i ≤ 0
    · rw [e, if_pos z] at K
      exact br_t z (nm_r (nI_1 i) K)
    · rw [e, if_neg z] at K
      exact br_f z (nm_e (nm_r (nI_1 i) K))
theorem cv_x24a {post : Int32 → SX → Prop} {A B : Nat → Int32} {x : Int32} (hA : ∀ j, j < 120 → gc j = A j) (hB : ∀ j, j < 120 → gs j = B j) (h : post (cv_al A B x 120) (fc, pl, am, fa, nx, kp, cc, cs, gc, gs)) : ∀ d i, i + d = 120 → wX_atLeast_24 post x fc pl am fa nx kp cc cs gc gs (d + 1) (cv_al A B x i) (nI i) := by
  intro d
  induction d with
  | zero =>
    intro i hi
    obtain rfl : i = 120 := by omega
    exact br_t (Int32.le_refl _) h
  | succ d ih =>
    intro i hi
    have hni : ¬ (120 : Int32) ≤ nI i := nI_ge (b := 120) (by omega) (by decide)
    have hc : (nI i).toNatClampNeg = i := nI_clamp (by omega)
    have K := ih (i + 1) (by omega)
    have e : cv_al A B x (i + 1) = (if A i ≤ 0 then cv_al A B x i else if B i < x then cv_al A B x i else cv_al A B x i + 1) := rfl
    have hin : vp_in (nI i) 120 := vp_in_nI (by omega) (by decide)
    refine br_f hni (And.intro hin ?_)
    rw [hc, hA i (by omega), hB i (by omega)]
    by_cases z : A i ≤ 0
    · rw [e, if_pos z] at K
      exact br_t z (nm_r (nI_1 i) K)
    · rw [e, if_neg z] at K
      refine br_f z (And.intro hin ?_)
      by_cases y : B i < x
      · rw [if_pos y] at K
        exact br_t y (nm_r (nI_1 i) K)
      · rw [if_neg y] at K
        exact br_f y (nm_e (nm_r (nI_1 i) K))
theorem cv_x11 {post : Int32 → SX → Prop} {A B : Nat → Int32} (hA : ∀ j, j < 120 → gc j = A j) (hB : ∀ j, j < 120 → gs j = B j) (h : post (cv_tp A B 120) (fc, pl, am, fa, nx, kp, cc, cs, gc, gs)) : ∀ d i, i + d = 120 → wX_top_11 post fc pl am fa nx kp cc cs gc gs (d + 1) (cv_tp A B i) (nI i) := by
  intro d
  induction d with
  | zero =>
    intro i hi
    obtain rfl : i = 120 := by omega
    exact br_t (Int32.le_refl _) h
  | succ d ih =>
    intro i hi
    have hni : ¬ (120 : Int32) ≤ nI i := nI_ge (b := 120) (by omega) (by decide)
    have hc : (nI i).toNatClampNeg = i := nI_clamp (by omega)
    have K := ih (i + 1) (by omega)
    have e : cv_tp A B (i + 1) = (if A i ≤ 0 then cv_tp A B i else if cv_tp A B i < 0 then nI i else if B i ≤ B (cv_tp A B i).toNatClampNeg then cv_tp A B i else nI i) := rfl
    have hin : vp_in (nI i) 120 := vp_in_nI (by omega) (by decide)
    have D := cv_tp_in A B i
    rw [e] at K
    generalize cv_tp A B i = t at D K ⊢
    refine br_f hni (And.intro hin ?_)
    rw [hc, hA i (by omega), hB i (by omega)]
    by_cases z : A i ≤ 0
    · rw [if_pos z] at K
      exact br_t z (nm_r (nI_1 i) K)
    · rw [if_neg z] at K
      refine br_f z ?_
      rcases D with rfl | ⟨b, hb, rfl⟩
      · rw [if_pos (by decide)] at K
        exact br_t (by decide) (nm_r (nI_1 i) K)
      · have hb0 : ¬ nI b < 0 := nI_pos (by omega)
        have hcb : (nI b).toNatClampNeg = b := nI_clamp (by omega)
        rw [if_neg hb0, hcb] at K
        refine br_f hb0 (And.intro hin (And.intro (vp_in_nI (by omega) (by decide)) ?_))
        rw [hcb, hB b (by omega)]
        by_cases y : B i ≤ B b
        · rw [if_pos y] at K
          exact br_t y (nm_r (nI_1 i) K)
        · rw [if_neg y] at K
          exact br_f y (nm_r (nI_1 i) K)
/-! plan -/
theorem cv_x138 {post : Int32 → SX → Prop} {J : Int32 → Int32 → Int32 → Int32 → (Nat → Int32) → (Nat → Int32) → (Nat → Int32) → (Nat → Int32) → (Nat → Int32) → (Nat → Int32) → (Nat → Int32) → (Nat → Int32) → (Nat → Int32) → Prop} {n i : Nat} {x2 x6 z0 : Int32} (hn : n ≤ 40) (hq : ∀ i, i < n → cv_q pl i < 120 ∧ pl i = nI (cv_q pl i)) (hz : z0 = 0 ∨ ∃ g, g < 8 ∧ x6 = nI g)
    (C1 : cv_CW n pl (fun _ => 1) kp cc) (C2 : cv_CW n pl am kp cs)
    (H : ∀ x2 x3 kp' cc' cs', cv_CW n pl (fun _ => 1) kp' cc' → cv_CW n pl am kp' cs' → J x2 x3 (nI (i + 1)) (nI n) pl am fa nx kp' cc' cs' gc gs) : wX_plan_138 post J x2 (nI i) x6 z0 (nI n) pl am fa nx kp cc cs gc gs := by
  by_cases z : z0 = 0
  · exact br_t z (nm_r (nI_1 i) (H _ _ _ _ _ C1 C2))
  · obtain ⟨g, hg, rfl⟩ : ∃ g, g < 8 ∧ x6 = nI g := hz.resolve_left z
    have hc : (nI g).toNatClampNeg = g := nI_clamp (by omega)
    refine br_f z (And.intro (vp_in_nI hg (by decide)) (nm_e (cv_xc (fun r => nm_e (cv_xf hn hq hg (nm_r (nI_1 i) (H _ _ _ _ _ ?_ ?_)))))))
    · rw [hc]
      exact cv_CW_fill hg (fun i hi => (hq i hi).1) C1
    · rw [hc]
      exact cv_CW_fill hg (fun i hi => (hq i hi).1) C2
theorem cv_x69 {post : Int32 → SX → Prop} {J : Int32 → Int32 → Int32 → Int32 → (Nat → Int32) → (Nat → Int32) → (Nat → Int32) → (Nat → Int32) → (Nat → Int32) → (Nat → Int32) → (Nat → Int32) → (Nat → Int32) → (Nat → Int32) → Prop} {n i : Nat} {x2 x5 : Int32} (hn : n ≤ 40) (hq : ∀ i, i < n → cv_q pl i < 120 ∧ pl i = nI (cv_q pl i))
    (C1 : cv_CW n pl (fun _ => 1) kp cc) (C2 : cv_CW n pl am kp cs)
    (H : ∀ x2 x3 kp' cc' cs', cv_CW n pl (fun _ => 1) kp' cc' → cv_CW n pl am kp' cs' → J x2 x3 (nI (i + 1)) (nI n) pl am fa nx kp' cc' cs' gc gs) : ∀ d k, k + d = 8 → ∀ x6 x7, (x6 = -1 ∨ ∃ g, g < 8 ∧ x6 = nI g) → wX_plan_69 post J x2 (nI i) x5 (nI n) pl am fa nx kp cc cs gc gs (d + 1) x6 x7 (nI k) := by
  intro d
  induction d with
  | zero =>
    intro k hk x6 x7 h6
    obtain rfl : k = 8 := by omega
    refine br_t (Int32.le_refl _) (br_c (fun _ => cv_x138 hn hq (Or.inl rfl) C1 C2 H) (fun t => cv_x138 hn hq (Or.inr ?_) C1 C2 H))
    rcases h6 with rfl | e
    · exact absurd (by decide) t
    · exact e
  | succ d ih =>
    intro k hk x6 x7 h6
    have hn8 : ¬ (8 : Int32) ≤ nI k := nI_ge (b := 8) (by omega) (by decide)
    refine br_f hn8 (cv_xw (fun r => nm_e (And.intro (vp_in_nI (by omega) (by decide)) ?_)))
    refine br_c (fun _ => cv_xc (fun r' => br_c (fun _ => nm_r (nI_1 k) (ih (k + 1) (by omega) _ _ h6)) (fun _ => br_c (fun _ => nm_r (nI_1 k) (ih (k + 1) (by omega) _ _ h6)) (fun _ => nm_r (nI_1 k) (ih (k + 1) (by omega) _ _ (Or.inr ⟨k, by omega, rfl⟩)))))) (fun _ => nm_r (nI_1 k) (ih (k + 1) (by omega) _ _ h6))
theorem cv_x42 {post : Int32 → SX → Prop} {n : Nat} (hn : n ≤ 40) (hq : ∀ i, i < n → cv_q pl i < 120 ∧ pl i = nI (cv_q pl i))
    (H : ∀ kp' cc' cs', cv_CW n pl (fun _ => 1) kp' cc' → cv_CW n pl am kp' cs' → post 0 (nI n, pl, am, fa, nx, kp', cc', cs', gc, gs)) : ∀ d i, i + d = 8 → ∀ x2 x3 (kp cc cs : Nat → Int32), cv_CW n pl (fun _ => 1) kp cc → cv_CW n pl am kp cs → wX_plan_42 post (d + 1) x2 x3 (nI i) (nI n) pl am fa nx kp cc cs gc gs := by
  intro d
  induction d with
  | zero =>
    intro i hi x2 x3 kp cc cs C1 C2
    obtain rfl : i = 8 := by omega
    exact br_t (Int32.le_refl _) (H _ _ _ C1 C2)
  | succ d ih =>
    intro i hi x2 x3 kp cc cs C1 C2
    have hn8 : ¬ (8 : Int32) ≤ nI i := nI_ge (b := 8) (by omega) (by decide)
    refine br_f hn8 (br_c (fun _ => H _ _ _ C1 C2) (fun _ => cv_xw (fun r => Exists.intro 9 (cv_x69 hn hq C1 C2 (fun a b kp' cc' cs' D1 D2 => ih (i + 1) (by omega) a b kp' cc' cs' D1 D2) 8 0 rfl (-1) 0 (Or.inl rfl)))))
theorem cv_x16p {post : Int32 → SX → Prop} {n : Nat} {x1 : Int32} (hn : n ≤ 40) (hq : ∀ i, i < n → cv_q pl i < 120 ∧ pl i = nI (cv_q pl i))
    (H : ∀ kp' cc' cs', cv_CW n pl (fun _ => 1) kp' cc' → cv_CW n pl am kp' cs' → post 0 (nI n, pl, am, fa, nx, kp', cc', cs', gc, gs)) : ∀ d i, i + d = 8 → wX_plan_16 post x1 (nI n) (d + 1) (nI i) pl am fa nx (cv_fl 0 0 kp i) cc cs gc gs := by
  intro d
  induction d with
  | zero =>
    intro i hi
    obtain rfl : i = 8 := by omega
    refine br_t (Int32.le_refl _) (Exists.intro 9 (cv_x42 hn hq H 8 0 rfl x1 1 _ _ _ ?_ ?_))
    · intro g hg hk
      exact absurd (cv_fl0_in 0 kp hg) hk
    · intro g hg hk
      exact absurd (cv_fl0_in 0 kp hg) hk
  | succ d ih =>
    intro i hi
    have hn8 : ¬ (8 : Int32) ≤ nI i := nI_ge (b := 8) (by omega) (by decide)
    have hc : (nI i).toNatClampNeg = i := nI_clamp (by omega)
    have ev : vp_nar .boolean 0 = 0 := rfl
    refine br_f hn8 ?_
    rw [hc, ev]
    exact And.intro (vp_in_nI (by omega) (by decide)) (nm_r (cv_fl0 0 kp i) (nm_r (nI_1 i) (ih (i + 1) (by omega))))
end
end
section
/-! the reference's helpers and loops, walked -/
theorem cv_yr {post : Int32 → Prop} {u : SY} {p : Nat} (hp : p < 120) (h : post (nI (p % 4))) : wpY_region post u (nI p) := by
  obtain ⟨fc, fo, to, pl, am⟩ := u
  show ¬ (4 : Int32) = 0 ∧ post (nI p - nI p / 4 * 4)
  rw [cv_rem4 hp]
  exact ⟨by decide, h⟩
theorem cv_yk {post : Int32 → Prop} {u : SY} {p : Nat} (hp : p < 120) (h : post (nI (p / 4 % 5))) : wpY_kind post u (nI p) := by
  obtain ⟨fc, fo, to, pl, am⟩ := u
  show ¬ (4 : Int32) = 0 ∧ (¬ (5 : Int32) = 0 ∧ post ((nI p / 4) - (nI p / 4) / 5 * 5))
  rw [cv_div4 hp, cv_rem5 hp]
  exact ⟨by decide, by decide, h⟩
theorem cv_ymo {post : Int32 → Prop} {u : SY} {p : Nat} (hp : p < 120) (h : post (nI (p / 20))) : wpY_month post u (nI p) := by
  obtain ⟨fc, fo, to, pl, am⟩ := u
  show ¬ (20 : Int32) = 0 ∧ post (nI p / 20)
  rw [cv_div20 hp]
  exact ⟨by decide, h⟩
theorem cv_yh {post : Int32 → Prop} {u : SY} {f r : Nat} {x : Int32} (hf : f < 32768) (hr : r < 32) (hx : x = nI r) (h : post (cv_bI (cv_bt f r))) : wpY_has post u (nI f) x := by
  obtain ⟨fc, fo, to, pl, am⟩ := u
  subst hx
  have hb := cv_bit hf hr
  by_cases y : cv_bt f r = true
  · rw [y] at h
    exact br_t (hb.mpr y) h
  · have y' : cv_bt f r = false := by simpa using y
    rw [y'] at h
    exact br_f (fun t => y (hb.mp t)) h
theorem cv_yp {post : Int32 → Prop} {u : SY} {p f : Nat} (hp : p < 120) (hf : f < 32768) (h : post (cv_bI (cv_ps p f 7))) : wpY_passes post u (nI p) (nI f) := by
  obtain ⟨fc, fo, to, pl, am⟩ := u
  have e : cv_ps p f 7 = (cv_bt f (p % 4) && cv_bt f (4 + p / 4 % 5) && cv_bt f (9 + p / 20)) := rfl
  rw [e] at h
  unfold wpY_passes
  refine cv_yr hp ?_
  refine cv_yh hf (r := p % 4) (by omega) rfl ?_
  by_cases y : cv_bt f (p % 4) = true
  · rw [y] at h ⊢
    refine br_f (by decide) ?_
    refine cv_yk hp ?_
    refine cv_yh hf (r := 4 + p / 4 % 5) (by omega) (nI_add 4 (p / 4 % 5)) ?_
    by_cases z : cv_bt f (4 + p / 4 % 5) = true
    · rw [z] at h ⊢
      refine br_f (by decide) ?_
      refine cv_ymo hp ?_
      refine cv_yh hf (r := 9 + p / 20) (by omega) (nI_add 9 (p / 20)) ?_
      by_cases x : cv_bt f (9 + p / 20) = true
      · rw [x] at h ⊢
        exact br_f (by decide) h
      · have x' : cv_bt f (9 + p / 20) = false := by simpa using x
        rw [x'] at h ⊢
        exact br_t rfl h
    · have z' : cv_bt f (4 + p / 4 % 5) = false := by simpa using z
      rw [z'] at h ⊢
      exact br_t rfl h
  · have y' : cv_bt f (p % 4) = false := by simpa using y
    rw [y'] at h ⊢
    exact br_t rfl h
theorem cv_b8 : ∀ g, g < 8 → (cv_bt g 0 = !decide (g % 2 = 0)) ∧ (cv_bt g 1 = !decide (g / 2 % 2 = 0)) ∧ (cv_bt g 2 = !decide (g / 4 % 2 = 0)) := by decide +kernel
theorem cv_yg {post : Int32 → Prop} {u : SY} {p g : Nat} (hp : p < 120) (hg : g < 8) (h : post (nI (cv_gr p g))) : wpY_groupOf post u (nI p) (nI g) := by
  obtain ⟨fc, fo, to, pl, am⟩ := u
  obtain ⟨b1, b2, b3⟩ := cv_b8 g hg
  have E : ∀ r k m : Nat, r + 4 * k + 20 * m = cv_gr p g → wY_groupOf_57 post (nI r) (nI k) (nI m) fc fo to pl am := by
    intro r k m e
    show post (nI r + 4 * nI k + 20 * nI m)
    rw [cv_g48, e]
    exact h
  have E2 : ∀ r k : Nat, r + 4 * k + 20 * (if g / 4 % 2 = 0 then 0 else p / 20) = cv_gr p g → wY_groupOf_37 post (nI p) (nI g) (nI r) (nI k) fc fo to pl am := by
    intro r k e
    unfold wY_groupOf_37
    refine cv_yh (f := g) (r := 2) (by omega) (by decide) rfl ?_
    rw [b3]
    by_cases z : g / 4 % 2 = 0
    · rw [if_pos z] at e
      rw [decide_eq_true z]
      exact br_t rfl (E r k 0 e)
    · rw [if_neg z] at e
      rw [decide_eq_false z]
      exact br_f (by decide) (cv_ymo hp (E r k _ e))
  have E1 : ∀ r : Nat, r + 4 * (if g / 2 % 2 = 0 then 0 else p / 4 % 5) + 20 * (if g / 4 % 2 = 0 then 0 else p / 20) = cv_gr p g → wY_groupOf_18 post (nI p) (nI g) (nI r) fc fo to pl am := by
    intro r e
    unfold wY_groupOf_18
    refine cv_yh (f := g) (r := 1) (by omega) (by decide) rfl ?_
    rw [b2]
    by_cases z : g / 2 % 2 = 0
    · rw [if_pos z] at e
      rw [decide_eq_true z]
      exact br_t rfl (E2 r 0 e)
    · rw [if_neg z] at e
      rw [decide_eq_false z]
      exact br_f (by decide) (cv_yk hp (E2 r _ e))
  have e : (if g % 2 = 0 then 0 else p % 4) + 4 * (if g / 2 % 2 = 0 then 0 else p / 4 % 5) + 20 * (if g / 4 % 2 = 0 then 0 else p / 20) = cv_gr p g := rfl
  unfold wpY_groupOf
  refine cv_yh (f := g) (r := 0) (by omega) (by decide) rfl ?_
  rw [b1]
  by_cases z : g % 2 = 0
  · rw [if_pos z] at e
    rw [decide_eq_true z]
    exact br_t rfl (E1 0 e)
  · rw [if_neg z] at e
    rw [decide_eq_false z]
    exact br_f (by decide) (cv_yr hp (E1 _ e))
section
variable {pl am : Nat → Int32}
theorem cv_y13 {post : SY → Prop} {n j h f : Nat} (hn : n ≤ 40) (hq : ∀ i, i < n → cv_q pl i < 120 ∧ pl i = nI (cv_q pl i)) (hj : j < 120) (hh : h < 8) (hf : f < 32768) (H : post (nI n, cv_G pl (fun _ => 1) n h f j, cv_G pl am n h f j, pl, am)) : ∀ d i, i + d = n → wY_look_13 post (nI j) (nI h) (nI f) (nI n) pl am (d + 1) (nI i) (cv_G pl (fun _ => 1) i h f j) (cv_G pl am i h f j) := by
  intro d
  induction d with
  | zero =>
    intro i hi
    obtain rfl : i = n := by omega
    exact br_t (Int32.le_refl _) H
  | succ d ih =>
    intro i hi
    have hni : ¬ nI n ≤ nI i := nI_ge (by omega) (by omega)
    have hc : (nI i).toNatClampNeg = i := nI_clamp (by omega)
    have hi40 : vp_in (nI i) 40 := vp_in_nI (by omega) (by decide)
    obtain ⟨hp, ep⟩ := hq i (by omega)
    have K := ih (i + 1) (by omega)
    have e1 : cv_G pl (fun _ => 1) (i + 1) h f j = cv_G pl (fun _ => 1) i h f j + (if cv_gr (cv_q pl i) h = j ∧ cv_ps (cv_q pl i) f 7 = true then 1 else 0) := rfl
    have e2 : cv_G pl am (i + 1) h f j = cv_G pl am i h f j + (if cv_gr (cv_q pl i) h = j ∧ cv_ps (cv_q pl i) f 7 = true then am i else 0) := rfl
    rw [e1, e2] at K
    have hl := cv_gr_lt h hp
    refine br_f hni (And.intro hi40 ?_)
    rw [hc, ep]
    refine cv_yg hp hh ?_
    by_cases z : cv_gr (cv_q pl i) h = j
    · refine br_t (congrArg nI z) (And.intro hi40 (cv_yp hp hf ?_))
      by_cases y : cv_ps (cv_q pl i) f 7 = true
      · rw [if_pos ⟨z, y⟩, if_pos ⟨z, y⟩] at K
        rw [y]
        exact br_f (by decide) (nm_e (And.intro hi40 (nm_e (nm_r (nI_1 i) K))))
      · have y' : cv_ps (cv_q pl i) f 7 = false := by simpa using y
        rw [if_neg (fun t => y t.2), if_neg (fun t => y t.2), Int32.add_zero, Int32.add_zero] at K
        rw [y']
        exact br_t rfl (nm_r (nI_1 i) K)
    · rw [if_neg (fun t => z t.1), if_neg (fun t => z t.1), Int32.add_zero, Int32.add_zero] at K
      exact br_f (fun t => z ((nI_eq (by omega) (by omega)).mp t)) (nm_r (nI_1 i) K)
theorem cv_yl {post : SY → Prop} {n j h f : Nat} {fo to : Int32} (hn : n ≤ 40) (hq : ∀ i, i < n → cv_q pl i < 120 ∧ pl i = nI (cv_q pl i)) (hj : j < 120) (hh : h < 8) (hf : f < 32768) (H : post (nI n, cv_G pl (fun _ => 1) n h f j, cv_G pl am n h f j, pl, am)) : wpY_look post (nI n, fo, to, pl, am) (nI j) (nI h) (nI f) :=
  Exists.intro (n + 1) (cv_y13 hn hq hj hh hf H n 0 (by omega))
theorem cv_y16 {post : Int32 → Prop} {n f : Nat} {fo to : Int32} (hn : n ≤ 40) (hq : ∀ i, i < n → cv_q pl i < 120 ∧ pl i = nI (cv_q pl i)) (hf : f < 32768) (H : ∀ r, cv_MX n (fun i => cv_ps (cv_q pl i) f 7 = true) am (-4000000) r → post r) : ∀ d i, i + d = n → ∀ x2, cv_MX i (fun i => cv_ps (cv_q pl i) f 7 = true) am (-4000000) x2 → wY_greatest_16 post (nI f) (nI n) fo to pl am (d + 1) x2 (nI i) := by
  intro d
  induction d with
  | zero =>
    intro i hi x2 hx
    obtain rfl : i = n := by omega
    exact br_t (Int32.le_refl _) (H x2 hx)
  | succ d ih =>
    intro i hi x2 hx
    have hni : ¬ nI n ≤ nI i := nI_ge (by omega) (by omega)
    have hc : (nI i).toNatClampNeg = i := nI_clamp (by omega)
    have hi40 : vp_in (nI i) 40 := vp_in_nI (by omega) (by decide)
    obtain ⟨hp, ep⟩ := hq i (by omega)
    refine br_f hni (And.intro hi40 ?_)
    rw [hc, ep]
    refine cv_yp hp hf ?_
    by_cases y : cv_ps (cv_q pl i) f 7 = true
    · rw [y]
      refine br_f (by decide) (And.intro hi40 ?_)
      by_cases z : am i ≤ x2
      · refine br_t z (nm_r (nI_1 i) (ih (i + 1) (by omega) x2 ⟨hx.1, fun k hk hP => ?_, ?_⟩))
        · by_cases t : k = i
          · subst t; exact z
          · exact hx.2.1 k (by omega) hP
        · rcases hx.2.2 with t | ⟨k, hk, hP, t⟩
          · exact Or.inl t
          · exact Or.inr ⟨k, by omega, hP, t⟩
      · have z' : x2 ≤ am i := Int32.le_of_lt (Int32.not_le.mp z)
        refine br_f z (And.intro hi40 (nm_e (nm_r (nI_1 i) (ih (i + 1) (by omega) (am i) ⟨Int32.le_trans hx.1 z', fun k hk hP => ?_, Or.inr ⟨i, by omega, y, rfl⟩⟩))))
        by_cases t : k = i
        · subst t; exact Int32.le_refl _
        · exact Int32.le_trans (hx.2.1 k (by omega) hP) z'
    · have y' : cv_ps (cv_q pl i) f 7 = false := by simpa using y
      rw [y']
      refine br_t rfl (nm_r (nI_1 i) (ih (i + 1) (by omega) x2 ⟨hx.1, fun k hk hP => ?_, ?_⟩))
      · by_cases t : k = i
        · subst t; exact absurd hP y
        · exact hx.2.1 k (by omega) hP
      · rcases hx.2.2 with t | ⟨k, hk, hP, t⟩
        · exact Or.inl t
        · exact Or.inr ⟨k, by omega, hP, t⟩
theorem cv_y24 {post : Int32 → SY → Prop} {n h f : Nat} (hn : n ≤ 40) (hq : ∀ i, i < n → cv_q pl i < 120 ∧ pl i = nI (cv_q pl i)) (hh : h < 8) (hf : f < 32768) (H : ∀ fo to, post (cv_cg (cv_G pl (fun _ => 1) n h f) 120) (nI n, fo, to, pl, am)) : ∀ d i, i + d = 120 → ∀ fo to, wY_groups_24 post (nI h) (nI f) (d + 1) (cv_cg (cv_G pl (fun _ => 1) n h f) i) (nI i) (nI n) fo to pl am := by
  intro d
  induction d with
  | zero =>
    intro i hi fo to
    obtain rfl : i = 120 := by omega
    exact br_t (Int32.le_refl _) (H fo to)
  | succ d ih =>
    intro i hi fo to
    have hni : ¬ (120 : Int32) ≤ nI i := nI_ge (b := 120) (by omega) (by decide)
    have K := ih (i + 1) (by omega)
    have e : cv_cg (cv_G pl (fun _ => 1) n h f) (i + 1) = (if cv_G pl (fun _ => 1) n h f i ≤ 0 then cv_cg (cv_G pl (fun _ => 1) n h f) i else cv_cg (cv_G pl (fun _ => 1) n h f) i + 1) := rfl
    rw [e] at K
    refine br_f hni (cv_yl hn hq (by omega) hh hf ?_)
    by_cases z : cv_G pl (fun _ => 1) n h f i ≤ 0
    · rw [if_pos z] at K
      exact br_t z (nm_r (nI_1 i) (K _ _))
    · rw [if_neg z] at K
      exact br_f z (nm_e (nm_r (nI_1 i) (K _ _)))
theorem cv_y16a {post : Int32 → SY → Prop} {n h : Nat} {x : Int32} (hn : n ≤ 40) (hq : ∀ i, i < n → cv_q pl i < 120 ∧ pl i = nI (cv_q pl i)) (hh : h < 8) (H : ∀ fo to, post (cv_al (cv_G pl (fun _ => 1) n h 32767) (cv_G pl am n h 32767) x 120) (nI n, fo, to, pl, am)) : ∀ d i, i + d = 120 → ∀ fo to, wY_atLeast_16 post (nI h) x (d + 1) (cv_al (cv_G pl (fun _ => 1) n h 32767) (cv_G pl am n h 32767) x i) (nI i) (nI n) fo to pl am := by
  intro d
  induction d with
  | zero =>
    intro i hi fo to
    obtain rfl : i = 120 := by omega
    exact br_t (Int32.le_refl _) (H fo to)
  | succ d ih =>
    intro i hi fo to
    have hni : ¬ (120 : Int32) ≤ nI i := nI_ge (b := 120) (by omega) (by decide)
    have K := ih (i + 1) (by omega)
    have e : cv_al (cv_G pl (fun _ => 1) n h 32767) (cv_G pl am n h 32767) x (i + 1) = (if cv_G pl (fun _ => 1) n h 32767 i ≤ 0 then cv_al (cv_G pl (fun _ => 1) n h 32767) (cv_G pl am n h 32767) x i else if cv_G pl am n h 32767 i < x then cv_al (cv_G pl (fun _ => 1) n h 32767) (cv_G pl am n h 32767) x i else cv_al (cv_G pl (fun _ => 1) n h 32767) (cv_G pl am n h 32767) x i + 1) := rfl
    rw [e] at K
    refine br_f hni (cv_yl (f := 32767) hn hq (by omega) hh (by decide) ?_)
    by_cases z : cv_G pl (fun _ => 1) n h 32767 i ≤ 0
    · rw [if_pos z] at K
      exact br_t z (nm_r (nI_1 i) (K _ _))
    · rw [if_neg z] at K
      refine br_f z ?_
      by_cases y : cv_G pl am n h 32767 i < x
      · rw [if_pos y] at K
        exact br_t y (nm_r (nI_1 i) (K _ _))
      · rw [if_neg y] at K
        exact br_f y (nm_e (nm_r (nI_1 i) (K _ _)))
theorem cv_y25 {post : Int32 → SY → Prop} {n h f : Nat} (hn : n ≤ 40) (hq : ∀ i, i < n → cv_q pl i < 120 ∧ pl i = nI (cv_q pl i)) (hh : h < 8) (hf : f < 32768) (H : ∀ fo to, post (cv_ym (cv_G pl (fun _ => 1) n h f) (cv_G pl am n h f) 120) (nI n, fo, to, pl, am)) : ∀ d i, i + d = 120 → ∀ fo to, wY_topSum_25 post (nI h) (nI f) (d + 1) (cv_ym (cv_G pl (fun _ => 1) n h f) (cv_G pl am n h f) i) (nI i) (nI n) fo to pl am := by
  intro d
  induction d with
  | zero =>
    intro i hi fo to
    obtain rfl : i = 120 := by omega
    exact br_t (Int32.le_refl _) (H fo to)
  | succ d ih =>
    intro i hi fo to
    have hni : ¬ (120 : Int32) ≤ nI i := nI_ge (b := 120) (by omega) (by decide)
    have K := ih (i + 1) (by omega)
    have e : cv_ym (cv_G pl (fun _ => 1) n h f) (cv_G pl am n h f) (i + 1) = (if cv_G pl (fun _ => 1) n h f i ≤ 0 then cv_ym (cv_G pl (fun _ => 1) n h f) (cv_G pl am n h f) i else if cv_G pl am n h f i ≤ cv_ym (cv_G pl (fun _ => 1) n h f) (cv_G pl am n h f) i then cv_ym (cv_G pl (fun _ => 1) n h f) (cv_G pl am n h f) i else cv_G pl am n h f i) := rfl
    rw [e] at K
    refine br_f hni (cv_yl hn hq (by omega) hh hf ?_)
    by_cases z : cv_G pl (fun _ => 1) n h f i ≤ 0
    · rw [if_pos z] at K
      exact br_t z (nm_r (nI_1 i) (K _ _))
    · rw [if_neg z] at K
      refine br_f z ?_
      by_cases y : cv_G pl am n h f i ≤ cv_ym (cv_G pl (fun _ => 1) n h f) (cv_G pl am n h f) i
      · rw [if_pos y] at K
        exact br_t y (nm_r (nI_1 i) (K _ _))
      · rw [if_neg y] at K
        exact br_f y (nm_r (nI_1 i) (K _ _))
theorem cv_y29 {post : Int32 → SY → Prop} {n h f : Nat} (hn : n ≤ 40) (hq : ∀ i, i < n → cv_q pl i < 120 ∧ pl i = nI (cv_q pl i)) (hh : h < 8) (hf : f < 32768) (H : ∀ fo to, post (cv_yb (cv_G pl (fun _ => 1) n h f) (cv_G pl am n h f) 120) (nI n, fo, to, pl, am)) : ∀ d i, i + d = 120 → ∀ fo to, wY_topGroup_29 post (nI h) (nI f) (d + 1) (cv_ym (cv_G pl (fun _ => 1) n h f) (cv_G pl am n h f) i) (cv_yb (cv_G pl (fun _ => 1) n h f) (cv_G pl am n h f) i) (nI i) (nI n) fo to pl am := by
  intro d
  induction d with
  | zero =>
    intro i hi fo to
    obtain rfl : i = 120 := by omega
    exact br_t (Int32.le_refl _) (H fo to)
  | succ d ih =>
    intro i hi fo to
    have hni : ¬ (120 : Int32) ≤ nI i := nI_ge (b := 120) (by omega) (by decide)
    have K := ih (i + 1) (by omega)
    have e : cv_ym (cv_G pl (fun _ => 1) n h f) (cv_G pl am n h f) (i + 1) = (if cv_G pl (fun _ => 1) n h f i ≤ 0 then cv_ym (cv_G pl (fun _ => 1) n h f) (cv_G pl am n h f) i else if cv_G pl am n h f i ≤ cv_ym (cv_G pl (fun _ => 1) n h f) (cv_G pl am n h f) i then cv_ym (cv_G pl (fun _ => 1) n h f) (cv_G pl am n h f) i else cv_G pl am n h f i) := rfl
    have e' : cv_yb (cv_G pl (fun _ => 1) n h f) (cv_G pl am n h f) (i + 1) = (if cv_G pl (fun _ => 1) n h f i ≤ 0 then cv_yb (cv_G pl (fun _ => 1) n h f) (cv_G pl am n h f) i else if cv_G pl am n h f i ≤ cv_ym (cv_G pl (fun _ => 1) n h f) (cv_G pl am n h f) i then cv_yb (cv_G pl (fun _ => 1) n h f) (cv_G pl am n h f) i else nI i) := rfl
    rw [e, e'] at K
    refine br_f hni (cv_yl hn hq (by omega) hh hf ?_)
    by_cases z : cv_G pl (fun _ => 1) n h f i ≤ 0
    · rw [if_pos z, if_pos z] at K
      exact br_t z (show wY_topGroup_66 post _ _ _ _ _ _ _ _ _ _ _ from br_t z (nm_r (nI_1 i) (K _ _)))
    · rw [if_neg z, if_neg z] at K
      refine br_f z ?_
      by_cases y : cv_G pl am n h f i ≤ cv_ym (cv_G pl (fun _ => 1) n h f) (cv_G pl am n h f) i
      · rw [if_pos y, if_pos y] at K
        exact br_t y (show wY_topGroup_66 post _ _ _ _ _ _ _ _ _ _ _ from br_f z (br_t y (nm_r (nI_1 i) (K _ _))))
      · rw [if_neg y, if_neg y] at K
        exact br_f y (br_f z (br_f y (nm_r (nI_1 i) (K _ _))))
/-! quarter and growth of the reference -/
def cv_qs (pl am : Nat → Int32) (q r : Nat) : Nat → Int32 := cv_sm (fun i => if cv_q pl i / 20 / 3 = q ∧ cv_q pl i % 4 = r then am i else 0)
theorem cv_y26 {post : Int32 → Prop} {n q r : Nat} {fo to : Int32} (hn : n ≤ 40) (hq : ∀ i, i < n → cv_q pl i < 120 ∧ pl i = nI (cv_q pl i)) (hq2 : q < 2) (hr : r < 4) (H : post (cv_qs pl am q r n)) : ∀ d i, i + d = n → wY_quarter_26 post (nI q) (nI r) (nI n) fo to pl am (d + 1) (cv_qs pl am q r i) (nI i) := by
  intro d
  induction d with
  | zero =>
    intro i hi
    obtain rfl : i = n := by omega
    exact br_t (Int32.le_refl _) H
  | succ d ih =>
    intro i hi
    have hni : ¬ nI n ≤ nI i := nI_ge (by omega) (by omega)
    have hc : (nI i).toNatClampNeg = i := nI_clamp (by omega)
    have hi40 : vp_in (nI i) 40 := vp_in_nI (by omega) (by decide)
    obtain ⟨hp, ep⟩ := hq i (by omega)
    have K := ih (i + 1) (by omega)
    have e1 : cv_qs pl am q r (i + 1) = cv_qs pl am q r i + (if cv_q pl i / 20 / 3 = q ∧ cv_q pl i % 4 = r then am i else 0) := rfl
    rw [e1] at K
    have e3 : nI (cv_q pl i / 20) / 3 = nI (cv_q pl i / 20 / 3) := pk_div (a := cv_q pl i / 20) (d := 3) (by omega) (by decide) (by decide)
    refine br_f hni (And.intro hi40 ?_)
    rw [hc, ep]
    refine cv_ymo hp (And.intro (by decide) ?_)
    rw [e3]
    by_cases z : cv_q pl i / 20 / 3 = q
    · refine br_t (congrArg nI z) (And.intro hi40 (cv_yr hp ?_))
      by_cases y : cv_q pl i % 4 = r
      · rw [if_pos ⟨z, y⟩] at K
        exact br_t (congrArg nI y) (And.intro hi40 (nm_e (nm_r (nI_1 i) K)))
      · rw [if_neg (fun t => y t.2), Int32.add_zero] at K
        exact br_f (fun t => y ((nI_eq (by omega) (by omega)).mp t)) (nm_r (nI_1 i) K)
    · rw [if_neg (fun t => z t.1), Int32.add_zero] at K
      exact br_f (fun t => z ((nI_eq (by omega) (by omega)).mp t)) (nm_r (nI_1 i) K)
def cv_ms (pl am : Nat → Int32) (m : Nat) : Nat → Int32 := cv_sm (fun i => if cv_q pl i / 20 = m then am i else 0)
theorem cv_y17 {post : Int32 → Prop} {n m : Nat} {fo to : Int32} (hn : n ≤ 40) (hq : ∀ i, i < n → cv_q pl i < 120 ∧ pl i = nI (cv_q pl i)) (hm : m < 5) (H : post (cv_ms pl am (m + 1) n - cv_ms pl am m n)) : ∀ d i, i + d = n → wY_growth_17 post (nI (m + 1)) (nI n) fo to pl am (d + 1) (cv_ms pl am (m + 1) i - cv_ms pl am m i) (nI i) := by
  intro d
  induction d with
  | zero =>
    intro i hi
    obtain rfl : i = n := by omega
    exact br_t (Int32.le_refl _) H
  | succ d ih =>
    intro i hi
    have hni : ¬ nI n ≤ nI i := nI_ge (by omega) (by omega)
    have hc : (nI i).toNatClampNeg = i := nI_clamp (by omega)
    have hi40 : vp_in (nI i) 40 := vp_in_nI (by omega) (by decide)
    obtain ⟨hp, ep⟩ := hq i (by omega)
    have K := ih (i + 1) (by omega)
    have e1 : cv_ms pl am (m + 1) (i + 1) = cv_ms pl am (m + 1) i + (if cv_q pl i / 20 = m + 1 then am i else 0) := rfl
    have e2 : cv_ms pl am m (i + 1) = cv_ms pl am m i + (if cv_q pl i / 20 = m then am i else 0) := rfl
    rw [e1, e2] at K
    have T : ∀ z0 : Int32, z0 - (if cv_q pl i / 20 = m then am i else 0) = cv_ms pl am (m + 1) i + (if cv_q pl i / 20 = m + 1 then am i else 0) - (cv_ms pl am m i + (if cv_q pl i / 20 = m then am i else 0)) → wY_growth_51 post (wY_growth_17 post (nI (m + 1)) (nI n) fo to pl am (d + 1)) (nI (m + 1)) (nI i) z0 (nI n) fo to pl am := by
      intro z0 ez
      rw [← ez] at K
      refine And.intro hi40 ?_
      rw [hc, ep, nI_pred m]
      refine cv_ymo hp ?_
      by_cases y : cv_q pl i / 20 = m
      · rw [if_pos y] at K
        exact br_t (congrArg nI y) (And.intro hi40 (nm_e (nm_r (nI_1 i) K)))
      · rw [if_neg y, Int32.sub_zero] at K
        exact br_f (fun t => y ((nI_eq (by omega) (by omega)).mp t)) (nm_r (nI_1 i) K)
    refine br_f hni (And.intro hi40 ?_)
    rw [hc, ep]
    refine cv_ymo hp ?_
    by_cases y : cv_q pl i / 20 = m + 1
    · refine br_t (congrArg nI y) (And.intro hi40 (T _ ?_))
      rw [if_pos y]
      grind
    · refine br_f (fun t => y ((nI_eq (by omega) (by omega)).mp t)) (T _ ?_)
      rw [if_neg y]
      grind
end
end
section
/-! the relation and what is owed -/
def cv_R (n : Nat) (pl am fa nx kp cc cs : Nat → Int32) : Prop :=
  n ≤ 40 ∧ (∀ i, i < n → cv_q pl i < 120 ∧ pl i = nI (cv_q pl i)) ∧ (∀ i, i < n → -50 ≤ (am i).toInt ∧ (am i).toInt ≤ 50) ∧ (∀ p, p < 120 → fa p = cv_ls pl n p) ∧ (∀ i, i < n → nx i = cv_ls pl i (cv_q pl i)) ∧ cv_CW n pl (fun _ => 1) kp cc ∧ cv_CW n pl am kp cs
/-- the relation at the head of a turn -/
def i_Rel (k : Nat) (u : SX) (v : SY) : Prop := ∃ (n : Nat) (pl am fa nx kp cc cs gc gs : Nat → Int32) (fo to : Int32), u = (nI n, pl, am, fa, nx, kp, cc, cs, gc, gs) ∧ v = (nI n, fo, to, pl, am) ∧ cv_R n pl am fa nx kp cc cs
theorem cv_mk {k n : Nat} {pl am fa nx kp cc cs gc gs : Nat → Int32} {fo to : Int32} (R : cv_R n pl am fa nx kp cc cs) : i_Rel k (nI n, pl, am, fa, nx, kp, cc, cs, gc, gs) (nI n, fo, to, pl, am) := ⟨n, pl, am, fa, nx, kp, cc, cs, gc, gs, fo, to, rfl, rfl, R⟩
theorem i_up {k : Nat} {u : SX} {v : SY} (h : i_Rel k u v) : i_Rel (k + 3) u v := h
theorem cv_x80 {post : SX → Prop} {fa : Nat → Int32} {pl am nx kp cc cs gc gs : Nat → Int32} (h : post (0, pl, am, cv_fl 0 (-1) fa 120, nx, kp, cc, cs, gc, gs)) : ∀ d i, i + d = 120 → wX_init_80 post 0 (d + 1) (nI i) pl am (cv_fl 0 (-1) fa i) nx kp cc cs gc gs := by
  intro d
  induction d with
  | zero =>
    intro i hi
    obtain rfl : i = 120 := by omega
    exact br_t (Int32.le_refl _) h
  | succ d ih =>
    intro i hi
    have hni : ¬ (120 : Int32) ≤ nI i := nI_ge (b := 120) (by omega) (by decide)
    have hc : (nI i).toNatClampNeg = i := nI_clamp (by omega)
    refine br_f hni ?_
    rw [hc]
    exact And.intro (vp_in_nI (by omega) (by decide)) (nm_r (cv_fl0 (-1) fa i) (nm_r (nI_1 i) (ih (i + 1) (by omega))))
theorem i_vc0 : wpX_init (fun u => wpY_init (fun v => i_Rel 0 u v)) := by
  refine Exists.intro 121 (cv_x80 (fa := fun _ => 0) ?_ 120 0 rfl)
  show i_Rel 0 (nI 0, (fun _ => 0), (fun _ => 0), cv_fl 0 (-1) (fun _ => 0) 120, (fun _ => 0), (fun _ => 0), (fun _ => 0), (fun _ => 0), (fun _ => 0), (fun _ => 0)) (nI 0, 0, 0, (fun _ => 0), (fun _ => 0))
  refine cv_mk ⟨by omega, fun i hi => absurd hi (Nat.not_lt_zero i), fun i hi => absurd hi (Nat.not_lt_zero i), fun p hp => cv_fl0_in (-1) _ hp, fun i hi => absurd hi (Nat.not_lt_zero i), fun g _ hk => absurd rfl hk, fun g _ hk => absurd rfl hk⟩
/-! ranges -/
theorem cv_gt {v : Int32} {N : Nat} (hN : N + 1 < 2 ^ 31) (h : nI (N + 1) ≤ v) : nI N < v := by
  rw [Int32.le_iff_toInt_le, nI_toInt hN] at h
  rw [Int32.lt_iff_toInt_lt, nI_toInt (by omega)]
  omega
theorem cv_n0 {v : Int32} {N : Nat} (hN : N < 2 ^ 31) (h : nI N ≤ v) : ¬ v < 0 := by
  have e0 : (0 : Int32).toInt = 0 := by decide
  rw [Int32.le_iff_toInt_le, nI_toInt hN] at h
  rw [Int32.lt_iff_toInt_lt, e0]
  omega
theorem cv_xbf0 {post : Int32 → Prop} {u : SX} {f : Nat} (hf : f < 32768) (h : post 0) : wpX_badFilter post u (nI f) := by
  obtain ⟨fc, pl, am, fa, nx, kp, cc, cs, gc, gs⟩ := u
  exact br_f (nI_pos (by omega)) (br_t (nI_le (b := 32767) (by omega) (by decide)) h)
theorem cv_xbf1 {post : Int32 → Prop} {u : SX} {v : Int32} (hv : v < 0 ∨ nI 32768 ≤ v) (h : post 1) : wpX_badFilter post u v := by
  obtain ⟨fc, pl, am, fa, nx, kp, cc, cs, gc, gs⟩ := u
  rcases hv with z | z
  · exact br_t z h
  · exact br_f (cv_n0 (by decide) z) (br_f (Int32.not_le.mpr (cv_gt (N := 32767) (by decide) z)) h)
theorem cv_yif0 {post : Int32 → Prop} {u : SY} {f : Nat} (hf : f < 32768) (h : post 1) : wpY_isFilter post u (nI f) := by
  obtain ⟨fc, fo, to, pl, am⟩ := u
  exact br_f (nI_pos (by omega)) (br_f (nI_nlt (a := 32767) (by omega) (by decide)) h)
theorem cv_yif1 {post : Int32 → Prop} {u : SY} {v : Int32} (hv : v < 0 ∨ nI 32768 ≤ v) (h : post 0) : wpY_isFilter post u v := by
  obtain ⟨fc, fo, to, pl, am⟩ := u
  rcases hv with z | z
  · exact br_t z h
  · exact br_f (cv_n0 (by decide) z) (br_t (cv_gt (N := 32767) (by decide) z) h)
theorem cv_xbg0 {post : Int32 → Prop} {u : SX} {f : Nat} (hf : f < 8) (h : post 0) : wpX_badGrouping post u (nI f) := by
  obtain ⟨fc, pl, am, fa, nx, kp, cc, cs, gc, gs⟩ := u
  exact br_f (nI_pos (by omega)) (br_t (nI_lt (b := 8) (by omega) (by decide)) h)
theorem cv_xbg1 {post : Int32 → Prop} {u : SX} {v : Int32} (hv : v < 0 ∨ nI 8 ≤ v) (h : post 1) : wpX_badGrouping post u v := by
  obtain ⟨fc, pl, am, fa, nx, kp, cc, cs, gc, gs⟩ := u
  rcases hv with z | z
  · exact br_t z h
  · exact br_f (cv_n0 (by decide) z) (br_f (Int32.not_lt.mpr z) h)
theorem cv_yig0 {post : Int32 → Prop} {u : SY} {f : Nat} (hf : f < 8) (h : post 1) : wpY_isGrouping post u (nI f) := by
  obtain ⟨fc, fo, to, pl, am⟩ := u
  exact br_f (nI_pos (by omega)) (br_f (nI_nlt (a := 7) (by omega) (by decide)) h)
theorem cv_yig1 {post : Int32 → Prop} {u : SY} {v : Int32} (hv : v < 0 ∨ nI 8 ≤ v) (h : post 0) : wpY_isGrouping post u v := by
  obtain ⟨fc, fo, to, pl, am⟩ := u
  rcases hv with z | z
  · exact br_t z h
  · exact br_f (cv_n0 (by decide) z) (br_t (cv_gt (N := 7) (by decide) z) h)
theorem cv_ix (x : Int32) {n : Nat} (hn : n < 2 ^ 31) : (x < 0 ∨ nI n ≤ x) ∨ ∃ j : Nat, j < n ∧ x = nI j := by
  rcases pk_ix x hn with h | h | h
  · exact Or.inl (Or.inl h)
  · exact Or.inl (Or.inr h)
  · exact Or.inr h
/-! add, remove, change, facts -/
theorem cv_yia0 {post : Int32 → Prop} {u : SY} {v : Int32} (hv : v < -50 ∨ ¬ v ≤ 50) (h : post 0) : wpY_isAmount post u v := by
  obtain ⟨fc, fo, to, pl, am⟩ := u
  by_cases z : v < -50
  · exact br_t z h
  · exact br_f z (br_t (Int32.not_le.mp (hv.resolve_left z)) h)
theorem cv_yia1 {post : Int32 → Prop} {u : SY} {v : Int32} (h1 : ¬ v < -50) (h2 : v ≤ 50) (h : post 1) : wpY_isAmount post u v := by
  obtain ⟨fc, fo, to, pl, am⟩ := u
  exact br_f h1 (br_f (Int32.not_lt.mpr h2) h)
theorem cv_rng {v : Int32} (h1 : ¬ v < -50) (h2 : v ≤ 50) : -50 ≤ v.toInt ∧ v.toInt ≤ 50 := by
  have e1 : (-50 : Int32).toInt = -50 := by decide
  have e2 : (50 : Int32).toInt = 50 := by decide
  rw [Int32.lt_iff_toInt_lt, e1] at h1
  rw [Int32.le_iff_toInt_le, e2] at h2
  omega
theorem cv_R_add {n p : Nat} {pl am fa nx kp cc cs : Nat → Int32} {x : Int32} (R : cv_R n pl am fa nx kp cc cs) (hn : n < 40) (hp : p < 120) (hx : -50 ≤ x.toInt ∧ x.toInt ≤ 50) : cv_R (n + 1) (upd pl n (nI p)) (upd am n x) (upd fa p (nI n)) (upd nx n (fa p)) kp (cv_en kp p 1 cc 8) (cv_en kp p x cs 8) := by
  obtain ⟨_, hq, ha, hf, hx', C1, C2⟩ := R
  have u1 : ∀ i, i < n → upd pl n (nI p) i = pl i := fun i hi => pk_un (by omega)
  have u2 : ∀ i, i < n → cv_q (upd pl n (nI p)) i = cv_q pl i := fun i hi => congrArg Int32.toNatClampNeg (u1 i hi)
  have u3 : cv_q (upd pl n (nI p)) n = p := by
    show (upd pl n (nI p) n).toNatClampNeg = p
    rw [pk_us]
    exact nI_clamp (by omega)
  refine ⟨by omega, fun i hi => ?_, fun i hi => ?_, fun q hq' => ?_, fun i hi => ?_, ?_, ?_⟩
  · by_cases e : i = n
    · subst e
      rw [u3]
      exact ⟨hp, pk_us⟩
    · rw [u2 i (by omega), u1 i (by omega)]
      exact hq i (by omega)
  · by_cases e : i = n
    · subst e
      rw [pk_us]
      exact hx
    · rw [pk_un e]
      exact ha i (by omega)
  · show _ = (if cv_q (upd pl n (nI p)) n = q then nI n else cv_ls (upd pl n (nI p)) n q)
    rw [u3, cv_ls_congr n u1]
    by_cases e : p = q
    · subst e
      rw [if_pos rfl, pk_us]
    · rw [if_neg e, pk_un (fun t => e t.symm)]
      exact hf q hq'
  · by_cases e : i = n
    · subst e
      rw [pk_us, u3, cv_ls_congr i u1]
      exact hf p hp
    · rw [pk_un e, u2 i (by omega), cv_ls_congr i (fun k hk => u1 k (by omega))]
      exact hx' i (by omega)
  · exact cv_CW_add hp C1 u1 u3 (fun i hi => rfl) rfl
  · exact cv_CW_add hp C2 u1 u3 (fun i hi => pk_un (by omega)) pk_us
theorem i_vc_add {k : Nat} {u : SX} {v : SY} (I : i_Rel k u v) (hk : k + 3 ≤ 1536) (v1 : Int32) (v2 : Int32) : wpX_add (fun r u' => wpY_add (fun r' v' => r' = r ∧ i_Rel (k + 3) u' v') v v1 v2) u v1 v2 := by
  obtain ⟨n, pl, am, fa, nx, kp, cc, cs, gc, gs, fo, to, rfl, rfl, R⟩ := I
  rcases pk_ix v1 (n := 120) (by decide) with h | h | ⟨p, hp, rfl⟩
  · exact br_t h (br_t h ⟨rfl, cv_mk R⟩)
  · exact br_f (cv_n0 (by decide) h) (br_t h (br_f (cv_n0 (by decide) h) (br_t (cv_gt (N := 119) (by decide) h) ⟨rfl, cv_mk R⟩)))
  · have a1 : ¬ nI p < 0 := nI_pos (by omega)
    have a2 : ¬ (120 : Int32) ≤ nI p := nI_ge (b := 120) hp (by decide)
    have a3 : ¬ (119 : Int32) < nI p := nI_nlt (a := 119) (by omega) (by decide)
    by_cases h1 : v2 < -50
    · exact br_f a1 (br_f a2 (br_t h1 (br_f a1 (br_f a3 (cv_yia0 (Or.inl h1) (br_t rfl ⟨rfl, cv_mk R⟩))))))
    · by_cases h2 : v2 ≤ 50
      · refine br_f a1 (br_f a2 (br_f h1 (br_t h2 ?_)))
        by_cases h3 : n = 40
        · have e3 : nI n = 40 := congrArg nI h3
          exact br_t e3 (br_f a1 (br_f a3 (cv_yia1 h1 h2 (br_f (by decide) (br_t e3 ⟨rfl, cv_mk R⟩)))))
        · have hn40 := R.1
          have e3 : ¬ nI n = 40 := fun t => h3 ((nI_eq (a := n) (b := 40) (by omega) (by decide)).mp t)
          have hc : (nI n).toNatClampNeg = n := nI_clamp (by omega)
          have hcp : (nI p).toNatClampNeg = p := nI_clamp (by omega)
          have hin : vp_in (nI n) 40 := vp_in_nI (by omega) (by decide)
          have hip : vp_in (nI p) 120 := vp_in_nI hp (by decide)
          refine br_f e3 ?_
          rw [hc, hcp]
          refine And.intro hin (nm_e (And.intro hin (nm_e (And.intro hip (And.intro hin (nm_e (And.intro hip (nm_e (nm_r (nI_1 n) (cv_xe hp ?_))))))))))
          refine br_f a1 (br_f a3 (cv_yia1 h1 h2 (br_f (by decide) (br_f e3 ?_))))
          rw [hc]
          exact And.intro hin (nm_e (And.intro hin (nm_e (nm_r (nI_1 n) ⟨rfl, cv_mk (cv_R_add R (by omega) hp (cv_rng h1 h2))⟩))))
      · exact br_f a1 (br_f a2 (br_f h1 (br_f h2 (br_f a1 (br_f a3 (cv_yia0 (Or.inr h2) (br_t rfl ⟨rfl, cv_mk R⟩)))))))
theorem cv_R_rem {n : Nat} {pl am fa nx kp cc cs : Nat → Int32} (R : cv_R (n + 1) pl am fa nx kp cc cs) : cv_R n pl am (upd fa (cv_q pl n) (nx n)) nx kp (cv_en kp (cv_q pl n) (-1) cc 8) (cv_en kp (cv_q pl n) (-(am n)) cs 8) := by
  obtain ⟨hn, hq, ha, hf, hx', C1, C2⟩ := R
  have hp := (hq n (by omega)).1
  refine ⟨by omega, fun i hi => hq i (by omega), fun i hi => ha i (by omega), fun q hq' => ?_, fun i hi => hx' i (by omega), cv_CW_rem hp C1 rfl rfl, cv_CW_rem hp C2 rfl rfl⟩
  have e : fa q = (if cv_q pl n = q then nI n else cv_ls pl n q) := hf q hq'
  by_cases z : q = cv_q pl n
  · subst z
    rw [pk_us]
    exact hx' n (by omega)
  · rw [pk_un z, e, if_neg (fun t => z t.symm)]
theorem i_vc_remove {k : Nat} {u : SX} {v : SY} (I : i_Rel k u v) (hk : k + 3 ≤ 1536) : wpX_remove (fun r u' => wpY_remove (fun r' v' => r' = r ∧ i_Rel (k + 3) u' v') v) u := by
  obtain ⟨n, pl, am, fa, nx, kp, cc, cs, gc, gs, fo, to, rfl, rfl, R⟩ := I
  cases n with
  | zero => exact br_t rfl (br_t rfl ⟨rfl, cv_mk R⟩)
  | succ n =>
    have hn40 := R.1
    have e0 : ¬ nI (n + 1) = 0 := nI_ne0 (by omega) (by omega)
    have hc : (nI n).toNatClampNeg = n := nI_clamp (by omega)
    have hin : vp_in (nI n) 40 := vp_in_nI (by omega) (by decide)
    obtain ⟨hp, ep⟩ := R.2.1 n (by omega)
    have hcp : (nI (cv_q pl n)).toNatClampNeg = cv_q pl n := nI_clamp (by omega)
    have hip : vp_in (nI (cv_q pl n)) 120 := vp_in_nI hp (by decide)
    refine br_f e0 (nm_r (nI_pred n) ?_)
    rw [hc]
    refine And.intro hin (nm_r ep ?_)
    rw [hcp]
    refine And.intro hin (And.intro hip (nm_e (And.intro hin (cv_xe hp ?_))))
    refine And.intro hin (br_f e0 (nm_r (nI_pred n) (And.intro hin ⟨rfl, cv_mk (cv_R_rem R)⟩)))
theorem cv_R_chg {n k : Nat} {pl am fa nx kp cc cs : Nat → Int32} {x : Int32} (R : cv_R n pl am fa nx kp cc cs) (hk : k < n) (hx : -50 ≤ x.toInt ∧ x.toInt ≤ 50) : cv_R n pl (upd am k x) fa nx kp (cv_en kp (cv_q pl k) 0 cc 8) (cv_en kp (cv_q pl k) (x - am k) cs 8) := by
  obtain ⟨hn, hq, ha, hf, hx', C1, C2⟩ := R
  have hp := (hq k hk).1
  refine ⟨hn, hq, fun i hi => ?_, hf, hx', cv_CW_chg hp C1 hk rfl (fun i _ => rfl) (show (1 : Int32) - 1 = 0 by decide), cv_CW_chg hp C2 hk rfl (fun i hi => pk_un hi) (by rw [pk_us])⟩
  by_cases e : i = k
  · subst e
    rw [pk_us]
    exact hx
  · rw [pk_un e]
    exact ha i hi
theorem i_vc_change {k : Nat} {u : SX} {v : SY} (I : i_Rel k u v) (hk : k + 3 ≤ 1536) (v1 : Int32) (v2 : Int32) : wpX_change (fun r u' => wpY_change (fun r' v' => r' = r ∧ i_Rel (k + 3) u' v') v v1 v2) u v1 v2 := by
  obtain ⟨n, pl, am, fa, nx, kp, cc, cs, gc, gs, fo, to, rfl, rfl, R⟩ := I
  have hn40 := R.1
  rcases pk_ix v1 (n := n) (by omega) with h | h | ⟨p, hp, rfl⟩
  · exact br_t h (br_t h ⟨rfl, cv_mk R⟩)
  · have h0 := cv_n0 (by omega) h
    exact br_f h0 (br_t h (br_f h0 (br_t h ⟨rfl, cv_mk R⟩)))
  · have a1 : ¬ nI p < 0 := nI_pos (by omega)
    have a2 : ¬ nI n ≤ nI p := nI_ge hp (by omega)
    by_cases h1 : v2 < -50
    · exact br_f a1 (br_f a2 (br_t h1 (br_f a1 (br_f a2 (cv_yia0 (Or.inl h1) (br_t rfl ⟨rfl, cv_mk R⟩))))))
    · by_cases h2 : v2 ≤ 50
      · have hc : (nI p).toNatClampNeg = p := nI_clamp (by omega)
        have hin : vp_in (nI p) 40 := vp_in_nI (by omega) (by decide)
        obtain ⟨hq, eq⟩ := R.2.1 p hp
        refine br_f a1 (br_f a2 (br_f h1 (br_t h2 ?_)))
        rw [hc, eq]
        refine And.intro hin (nm_e (And.intro hin (nm_e (And.intro hin (cv_xe hq ?_)))))
        refine br_f a1 (br_f a2 (cv_yia1 h1 h2 (br_f (by decide) ?_)))
        rw [hc]
        exact And.intro hin (nm_e (And.intro hin (nm_e ⟨rfl, cv_mk (cv_R_chg R hp (cv_rng h1 h2))⟩)))
      · exact br_f a1 (br_f a2 (br_f h1 (br_f h2 (br_f a1 (br_f a2 (cv_yia0 (Or.inr h2) (br_t rfl ⟨rfl, cv_mk R⟩)))))))
theorem i_vc_facts {k : Nat} {u : SX} {v : SY} (I : i_Rel k u v) (hk : k + 3 ≤ 1536) : wpX_facts (fun r => wpY_facts (fun r' => r' = r ∧ i_Rel (k + 3) u v) v) u := by
  obtain ⟨n, pl, am, fa, nx, kp, cc, cs, gc, gs, fo, to, rfl, rfl, R⟩ := I
  exact ⟨rfl, cv_mk R⟩
end
section
/-! the questions -/
theorem i_vc_count {k : Nat} {u : SX} {v : SY} (I : i_Rel k u v) (hk : k + 3 ≤ 1536) (v1 : Int32) : wpX_count (fun r u' => wpY_count (fun r' v' => r' = r ∧ i_Rel (k + 3) u' v') v v1) u v1 := by
  obtain ⟨n, pl, am, fa, nx, kp, cc, cs, gc, gs, fo, to, rfl, rfl, R⟩ := I
  have R' := R
  obtain ⟨hn, hq, ha, hfa, hx, C1, C2⟩ := R'
  unfold wpX_count
  rcases cv_ix v1 (n := 32768) (by decide) with h | ⟨f, hf, rfl⟩
  · refine cv_xbf1 h (br_f (by decide) ?_)
    unfold wpY_count
    exact cv_yif1 h (br_t rfl ⟨rfl, cv_mk R⟩)
  · refine cv_xbf0 hf (br_t rfl ?_)
    refine cv_xga (h := 0) hn hq hf (by decide) C1 C2 (fun gc' gs' h1 h2 => ?_)
    unfold wpY_count
    refine cv_yif0 hf (br_f (by decide) ?_)
    refine cv_yl (j := 0) (h := 0) hn hq (by decide) (by decide) hf ?_
    exact ⟨(h1 0 (by decide)).symm, cv_mk R⟩
theorem i_vc_sum {k : Nat} {u : SX} {v : SY} (I : i_Rel k u v) (hk : k + 3 ≤ 1536) (v1 : Int32) : wpX_sum (fun r u' => wpY_sum (fun r' v' => r' = r ∧ i_Rel (k + 3) u' v') v v1) u v1 := by
  obtain ⟨n, pl, am, fa, nx, kp, cc, cs, gc, gs, fo, to, rfl, rfl, R⟩ := I
  have R' := R
  obtain ⟨hn, hq, ha, hfa, hx, C1, C2⟩ := R'
  unfold wpX_sum
  rcases cv_ix v1 (n := 32768) (by decide) with h | ⟨f, hf, rfl⟩
  · refine cv_xbf1 h (br_f (by decide) ?_)
    unfold wpY_sum
    exact cv_yif1 h (br_t rfl ⟨rfl, cv_mk R⟩)
  · refine cv_xbf0 hf (br_t rfl ?_)
    refine cv_xga (h := 0) hn hq hf (by decide) C1 C2 (fun gc' gs' h1 h2 => ?_)
    unfold wpY_sum
    refine cv_yif0 hf (br_f (by decide) ?_)
    refine cv_yl (j := 0) (h := 0) hn hq (by decide) (by decide) hf ?_
    exact ⟨(h2 0 (by decide)).symm, cv_mk R⟩
theorem i_vc_greatest {k : Nat} {u : SX} {v : SY} (I : i_Rel k u v) (hk : k + 3 ≤ 1536) (v1 : Int32) : wpX_greatest (fun r => wpY_greatest (fun r' => r' = r ∧ i_Rel (k + 3) u v) v v1) u v1 := by
  obtain ⟨n, pl, am, fa, nx, kp, cc, cs, gc, gs, fo, to, rfl, rfl, R⟩ := I
  have R' := R
  obtain ⟨hn, hq, ha, hfa, hx, C1, C2⟩ := R'
  unfold wpX_greatest
  rcases cv_ix v1 (n := 32768) (by decide) with h | ⟨f, hf, rfl⟩
  · refine cv_xbf1 h (br_f (by decide) ?_)
    unfold wpY_greatest
    exact cv_yif1 h (br_t rfl ⟨rfl, cv_mk R⟩)
  · refine cv_xbf0 hf (br_t rfl ?_)
    refine Exists.intro 121 (cv_x16 hn hx hfa hf (fun r hr => ?_) 120 0 rfl (-4000000) ⟨Int32.le_refl _, fun i _ hP => absurd hP.1 (Nat.not_lt_zero _), Or.inl rfl⟩)
    unfold wpY_greatest
    refine cv_yif0 hf (br_f (by decide) ?_)
    refine Exists.intro (n + 1) (cv_y16 hn hq hf (fun r' hr' => ?_) n 0 (by omega) (-4000000) ⟨Int32.le_refl _, fun i hi => absurd hi (Nat.not_lt_zero i), Or.inl rfl⟩)
    exact ⟨cv_MX_uq (cv_MX_congr (fun i hi => ⟨fun t => ⟨(hq i hi).1, t⟩, fun t => t.2⟩) hr') hr, cv_mk R⟩
theorem i_vc_groups {k : Nat} {u : SX} {v : SY} (I : i_Rel k u v) (hk : k + 3 ≤ 1536) (v1 : Int32) (v2 : Int32) : wpX_groups (fun r u' => wpY_groups (fun r' v' => r' = r ∧ i_Rel (k + 3) u' v') v v1 v2) u v1 v2 := by
  obtain ⟨n, pl, am, fa, nx, kp, cc, cs, gc, gs, fo, to, rfl, rfl, R⟩ := I
  have R' := R
  obtain ⟨hn, hq, ha, hfa, hx, C1, C2⟩ := R'
  unfold wpX_groups
  rcases cv_ix v1 (n := 8) (by decide) with h | ⟨g, hg, rfl⟩
  · refine cv_xbg1 h (br_f (by decide) ?_)
    unfold wpY_groups
    exact cv_yig1 h (br_t rfl ⟨rfl, cv_mk R⟩)
  · refine cv_xbg0 hg (br_t rfl ?_)
    rcases cv_ix v2 (n := 32768) (by decide) with h | ⟨f, hf, rfl⟩
    · refine cv_xbf1 h (br_f (by decide) ?_)
      unfold wpY_groups
      exact cv_yig0 hg (br_f (by decide) (cv_yif1 h (br_t rfl ⟨rfl, cv_mk R⟩)))
    · refine cv_xbf0 hf (br_t rfl ?_)
      refine cv_xga hn hq hf hg C1 C2 (fun gc' gs' h1 h2 => ?_)
      refine Exists.intro 121 (cv_x30 h1 ?_ 120 0 rfl)
      unfold wpY_groups
      refine cv_yig0 hg (br_f (by decide) (cv_yif0 hf (br_f (by decide) ?_)))
      exact Exists.intro 121 (cv_y24 hn hq hg hf (fun fo to => ⟨rfl, cv_mk R⟩) 120 0 rfl _ _)
theorem cv_GB {n : Nat} {pl am : Nat → Int32} (hn : n ≤ 40) (ha : ∀ i, i < n → -50 ≤ (am i).toInt ∧ (am i).toInt ≤ 50) (h f j : Nat) : ¬ cv_G pl am n h f j ≤ -4000000 := by
  have e : (-4000000 : Int32).toInt = -4000000 := by decide
  have b := (cv_sm_bd (f := fun i => if cv_gr (cv_q pl i) h = j ∧ cv_ps (cv_q pl i) f 7 = true then am i else 0) n (by omega) (fun i hi => by
    by_cases z : cv_gr (cv_q pl i) h = j ∧ cv_ps (cv_q pl i) f 7 = true
    · rw [if_pos z]; exact ha i hi
    · rw [if_neg z]; decide)).1
  have b' : -50 * (n : Int) ≤ (cv_G pl am n h f j).toInt := b
  rw [Int32.le_iff_toInt_le, e]
  omega
theorem i_vc_topSum {k : Nat} {u : SX} {v : SY} (I : i_Rel k u v) (hk : k + 3 ≤ 1536) (v1 : Int32) (v2 : Int32) : wpX_topSum (fun r u' => wpY_topSum (fun r' v' => r' = r ∧ i_Rel (k + 3) u' v') v v1 v2) u v1 v2 := by
  obtain ⟨n, pl, am, fa, nx, kp, cc, cs, gc, gs, fo, to, rfl, rfl, R⟩ := I
  have R' := R
  obtain ⟨hn, hq, ha, hfa, hx, C1, C2⟩ := R'
  unfold wpX_topSum
  rcases cv_ix v1 (n := 8) (by decide) with h | ⟨g, hg, rfl⟩
  · refine cv_xbg1 h (br_f (by decide) ?_)
    unfold wpY_topSum
    exact cv_yig1 h (br_t rfl ⟨rfl, cv_mk R⟩)
  · refine cv_xbg0 hg (br_t rfl ?_)
    rcases cv_ix v2 (n := 32768) (by decide) with h | ⟨f, hf, rfl⟩
    · refine cv_xbf1 h (br_f (by decide) ?_)
      unfold wpY_topSum
      exact cv_yig0 hg (br_f (by decide) (cv_yif1 h (br_t rfl ⟨rfl, cv_mk R⟩)))
    · refine cv_xbf0 hf (br_t rfl ?_)
      unfold wpX_top
      refine cv_xga hn hq hf hg C1 C2 (fun gc' gs' h1 h2 => ?_)
      refine Exists.intro 121 (cv_x11 h1 h2 ?_ 120 0 rfl)
      have Y : ∀ r u', r = cv_ym (cv_G pl (fun _ => 1) n g f) (cv_G pl am n g f) 120 → u' = (nI n, pl, am, fa, nx, kp, cc, cs, gc', gs') → wpY_topSum (fun r' v' => r' = r ∧ i_Rel (k + 3) u' v') (nI n, fo, to, pl, am) (nI g) (nI f) := by
        intro r u' er eu
        subst eu
        unfold wpY_topSum
        refine cv_yig0 hg (br_f (by decide) (cv_yif0 hf (br_f (by decide) ?_)))
        exact Exists.intro 121 (cv_y25 hn hq hg hf (fun fo to => ⟨er.symm, cv_mk R⟩) 120 0 rfl _ _)
      rcases cv_top (A := cv_G pl (fun _ => 1) n g f) (B := cv_G pl am n g f) (fun p _ => cv_GB hn ha g f p) 120 (Nat.le_refl _) with ⟨e1, e2, e3⟩ | ⟨b, hb, e1, e2, e3⟩
      · rw [e1]
        exact br_f (by decide) (Y _ _ e2.symm rfl)
      · rw [e1]
        have hc : (nI b).toNatClampNeg = b := nI_clamp (by omega)
        refine br_t (nI_pos' (by omega)) (And.intro (vp_in_nI hb (by decide)) (Y _ _ ?_ rfl))
        rw [hc, e2]
        exact h2 b hb
theorem i_vc_topGroup {k : Nat} {u : SX} {v : SY} (I : i_Rel k u v) (hk : k + 3 ≤ 1536) (v1 : Int32) (v2 : Int32) : wpX_topGroup (fun r u' => wpY_topGroup (fun r' v' => r' = r ∧ i_Rel (k + 3) u' v') v v1 v2) u v1 v2 := by
  obtain ⟨n, pl, am, fa, nx, kp, cc, cs, gc, gs, fo, to, rfl, rfl, R⟩ := I
  have R' := R
  obtain ⟨hn, hq, ha, hfa, hx, C1, C2⟩ := R'
  unfold wpX_topGroup
  rcases cv_ix v1 (n := 8) (by decide) with h | ⟨g, hg, rfl⟩
  · refine cv_xbg1 h (br_f (by decide) ?_)
    unfold wpY_topGroup
    exact cv_yig1 h (br_t rfl ⟨rfl, cv_mk R⟩)
  · refine cv_xbg0 hg (br_t rfl ?_)
    rcases cv_ix v2 (n := 32768) (by decide) with h | ⟨f, hf, rfl⟩
    · refine cv_xbf1 h (br_f (by decide) ?_)
      unfold wpY_topGroup
      exact cv_yig0 hg (br_f (by decide) (cv_yif1 h (br_t rfl ⟨rfl, cv_mk R⟩)))
    · refine cv_xbf0 hf (br_t rfl ?_)
      unfold wpX_top
      refine cv_xga hn hq hf hg C1 C2 (fun gc' gs' h1 h2 => ?_)
      refine Exists.intro 121 (cv_x11 h1 h2 ?_ 120 0 rfl)
      have Y : ∀ r u', r = cv_yb (cv_G pl (fun _ => 1) n g f) (cv_G pl am n g f) 120 → u' = (nI n, pl, am, fa, nx, kp, cc, cs, gc', gs') → wpY_topGroup (fun r' v' => r' = r ∧ i_Rel (k + 3) u' v') (nI n, fo, to, pl, am) (nI g) (nI f) := by
        intro r u' er eu
        subst eu
        unfold wpY_topGroup
        refine cv_yig0 hg (br_f (by decide) (cv_yif0 hf (br_f (by decide) ?_)))
        exact Exists.intro 121 (cv_y29 hn hq hg hf (fun fo to => ⟨er.symm, cv_mk R⟩) 120 0 rfl _ _)
      rcases cv_top (A := cv_G pl (fun _ => 1) n g f) (B := cv_G pl am n g f) (fun p _ => cv_GB hn ha g f p) 120 (Nat.le_refl _) with ⟨e1, e2, e3⟩ | ⟨b, hb, e1, e2, e3⟩
      · rw [e1]
        exact br_f (by decide) (Y _ _ e3.symm rfl)
      · rw [e1]
        exact br_t (nI_pos' (by omega)) (Y _ _ e3.symm rfl)
/-! quarter, growth -/
def cv_qf (q r : Nat) : Nat := 2 ^ r + 496 + 7 * 2 ^ (9 + 3 * q)
theorem cv_qf_i : ∀ q, q < 2 → ∀ r, r < 4 → ((((1 : Int32) <<< (nI r &&& 31)) ||| 496) ||| ((7 : Int32) <<< ((9 + (3 * nI q)) &&& 31))) = nI (cv_qf q r) := by decide +kernel
theorem cv_qf_l : ∀ q, q < 2 → ∀ r, r < 4 → cv_qf q r < 32768 := by decide +kernel
theorem cv_qf_p : ∀ q, q < 2 → ∀ r, r < 4 → ∀ p, p < 120 → (cv_ps p (cv_qf q r) 7 = true ↔ (p / 20 / 3 = q ∧ p % 4 = r)) := by decide +kernel
theorem i_vc_quarter {k : Nat} {u : SX} {v : SY} (I : i_Rel k u v) (hk : k + 3 ≤ 1536) (v1 : Int32) (v2 : Int32) : wpX_quarter (fun r u' => wpY_quarter (fun r' => r' = r ∧ i_Rel (k + 3) u' v) v v1 v2) u v1 v2 := by
  obtain ⟨n, pl, am, fa, nx, kp, cc, cs, gc, gs, fo, to, rfl, rfl, R⟩ := I
  have R' := R
  obtain ⟨hn, hq, ha, hfa, hx, C1, C2⟩ := R'
  rcases pk_ix v1 (n := 2) (by decide) with h | h | ⟨q, hq2, rfl⟩
  · exact br_t h (br_t h ⟨rfl, cv_mk R⟩)
  · have h0 := cv_n0 (by decide) h
    have h1 := cv_gt (N := 1) (by decide) h
    exact br_f h0 (br_t h1 (br_f h0 (br_t h1 ⟨rfl, cv_mk R⟩)))
  · have a1 : ¬ nI q < 0 := nI_pos (by omega)
    have a2 : ¬ (1 : Int32) < nI q := nI_nlt (a := 1) (by omega) (by decide)
    rcases pk_ix v2 (n := 4) (by decide) with h | h | ⟨r, hr, rfl⟩
    · exact br_f a1 (br_f a2 (br_t h (br_f a1 (br_f a2 (br_t h ⟨rfl, cv_mk R⟩)))))
    · have h0 := cv_n0 (by decide) h
      have h1 := cv_gt (N := 3) (by decide) h
      exact br_f a1 (br_f a2 (br_f h0 (br_f (Int32.not_lt.mpr h) (br_f a1 (br_f a2 (br_f h0 (br_f (Int32.not_le.mpr h1) ⟨rfl, cv_mk R⟩)))))))
    · have b1 : ¬ nI r < 0 := nI_pos (by omega)
      have b2 : nI r < 4 := nI_lt (b := 4) (by omega) (by decide)
      have b3 : nI r ≤ 3 := nI_le (b := 3) (by omega) (by decide)
      refine br_f a1 (br_f a2 (br_f b1 (br_t b2 ?_)))
      rw [cv_qf_i q hq2 r hr]
      refine cv_xga (h := 0) hn hq (cv_qf_l q hq2 r hr) (by decide) C1 C2 (fun gc' gs' h1 h2 => ?_)
      refine br_f a1 (br_f a2 (br_f b1 (br_t b3 ?_)))
      refine Exists.intro (n + 1) (cv_y26 hn hq hq2 hr ?_ n 0 (by omega))
      refine ⟨?_, cv_mk R⟩
      refine Eq.trans ?_ (h2 0 (by decide)).symm
      refine cv_sm_congr n (fun i hi => ?_)
      have P := cv_qf_p q hq2 r hr _ (hq i hi).1
      by_cases z : cv_q pl i / 20 / 3 = q ∧ cv_q pl i % 4 = r
      · rw [if_pos z, if_pos ⟨rfl, P.mpr z⟩]
      · rw [if_neg z, if_neg (fun t => z (P.mp t.2))]
theorem cv_all : ∀ p, p < 120 → cv_ps p 32767 7 = true ∧ cv_gr p 4 = 20 * (p / 20) := by decide +kernel
theorem cv_G4 {n : Nat} {pl am : Nat → Int32} (hq : ∀ i, i < n → cv_q pl i < 120) (m : Nat) : cv_G pl am n 4 32767 (20 * m) = cv_ms pl am m n := by
  refine cv_sm_congr n (fun i hi => ?_)
  obtain ⟨e1, e2⟩ := cv_all _ (hq i hi)
  by_cases z : cv_q pl i / 20 = m
  · rw [if_pos z, if_pos ⟨by rw [e2, z], e1⟩]
  · rw [if_neg z, if_neg (fun t => z (by have := t.1; omega))]
theorem cv_y17z {post : Int32 → Prop} {n m : Nat} {pl am : Nat → Int32} {fo to : Int32} (hn : n ≤ 40) (hq : ∀ i, i < n → cv_q pl i < 120 ∧ pl i = nI (cv_q pl i)) (hm : m < 5) (H : post (cv_ms pl am (m + 1) n - cv_ms pl am m n)) : wY_growth_17 post (nI (m + 1)) (nI n) fo to pl am (n + 1) 0 0 := by
  have K := cv_y17 (fo := fo) (to := to) hn hq hm H n 0 (by omega)
  have e0 : cv_ms pl am (m + 1) 0 - cv_ms pl am m 0 = 0 := by show (0 : Int32) - 0 = 0; decide
  rw [e0] at K
  exact K
theorem i_vc_growth {k : Nat} {u : SX} {v : SY} (I : i_Rel k u v) (hk : k + 3 ≤ 1536) (v1 : Int32) : wpX_growth (fun r u' => wpY_growth (fun r' => r' = r ∧ i_Rel (k + 3) u' v) v v1) u v1 := by
  obtain ⟨n, pl, am, fa, nx, kp, cc, cs, gc, gs, fo, to, rfl, rfl, R⟩ := I
  have R' := R
  obtain ⟨hn, hq, ha, hfa, hx, C1, C2⟩ := R'
  by_cases h : v1 < 1
  · exact br_t h (br_t h ⟨rfl, cv_mk R⟩)
  · rcases pk_ix v1 (n := 6) (by decide) with h' | h' | ⟨m, hm, rfl⟩
    · exact absurd (Int32.lt_trans h' (by decide)) h
    · have h1 := cv_gt (N := 5) (by decide) h'
      exact br_f h (br_f (Int32.not_lt.mpr h') (br_f h (br_f (Int32.not_le.mpr h1) ⟨rfl, cv_mk R⟩)))
    · cases m with
      | zero => exact absurd (by decide) h
      | succ m =>
        have b2 : nI (m + 1) < 6 := nI_lt (b := 6) (by omega) (by decide)
        have b3 : nI (m + 1) ≤ 5 := nI_le (b := 5) (by omega) (by decide)
        have e1 : (20 : Int32) * nI (m + 1) = nI (20 * (m + 1)) := pk_mul 20 (m + 1)
        have e2 : nI (20 * (m + 1)) - 20 = nI (20 * m) := (pk_sub (a := 20 * (m + 1)) (b := 20) (by omega)).trans (congrArg nI (by omega))
        have c1 : (nI (20 * (m + 1))).toNatClampNeg = 20 * (m + 1) := nI_clamp (by omega)
        have c2 : (nI (20 * m)).toNatClampNeg = 20 * m := nI_clamp (by omega)
        refine br_f h (br_t b2 ?_)
        refine cv_xga (h := 4) (f := 32767) hn hq (by decide) (by decide) C1 C2 (fun gc' gs' h1 h2 => ?_)
        refine And.intro ?_ (And.intro ?_ ?_)
        · rw [e1]; exact vp_in_nI (by omega) (by decide)
        · rw [e1, e2]; exact vp_in_nI (by omega) (by decide)
        · rw [e1, e2, c1, c2, h2 _ (by omega), h2 _ (by omega), cv_G4 (fun i hi => (hq i hi).1), cv_G4 (fun i hi => (hq i hi).1)]
          refine br_f h (br_t b3 ?_)
          exact Exists.intro (n + 1) (cv_y17z (m := m) hn hq (by omega) ⟨rfl, cv_mk R⟩)
theorem i_vc_atLeast {k : Nat} {u : SX} {v : SY} (I : i_Rel k u v) (hk : k + 3 ≤ 1536) (v1 : Int32) (v2 : Int32) : wpX_atLeast (fun r u' => wpY_atLeast (fun r' v' => r' = r ∧ i_Rel (k + 3) u' v') v v1 v2) u v1 v2 := by
  obtain ⟨n, pl, am, fa, nx, kp, cc, cs, gc, gs, fo, to, rfl, rfl, R⟩ := I
  have R' := R
  obtain ⟨hn, hq, ha, hfa, hx, C1, C2⟩ := R'
  unfold wpX_atLeast
  rcases cv_ix v1 (n := 8) (by decide) with h | ⟨g, hg, rfl⟩
  · refine cv_xbg1 h (br_f (by decide) ?_)
    unfold wpY_atLeast
    exact cv_yig1 h (br_t rfl ⟨rfl, cv_mk R⟩)
  · refine cv_xbg0 hg (br_t rfl ?_)
    refine cv_xga (f := 32767) hn hq (by decide) hg C1 C2 (fun gc' gs' h1 h2 => ?_)
    refine Exists.intro 121 (cv_x24a h1 h2 ?_ 120 0 rfl)
    unfold wpY_atLeast
    refine cv_yig0 hg (br_f (by decide) ?_)
    exact Exists.intro 121 (cv_y16a hn hq hg (fun fo to => ⟨rfl, cv_mk R⟩) 120 0 rfl _ _)
theorem i_vc_plan {k : Nat} {u : SX} {v : SY} (I : i_Rel k u v) (hk : k + 3 ≤ 1536) (v1 : Int32) : wpX_plan (fun r u' => wpY_plan (fun r' => r' = r ∧ i_Rel (k + 3) u' v) v v1) u v1 := by
  obtain ⟨n, pl, am, fa, nx, kp, cc, cs, gc, gs, fo, to, rfl, rfl, R⟩ := I
  have R' := R
  obtain ⟨hn, hq, ha, hfa, hx, C1, C2⟩ := R'
  by_cases h : v1 < 0
  · exact br_t h (br_t h ⟨rfl, cv_mk R⟩)
  · by_cases h2 : v1 ≤ 200
    · refine br_f h (br_t h2 (Exists.intro 9 (cv_x16p hn hq (fun kp' cc' cs' D1 D2 => ?_) 8 0 rfl)))
      exact br_f h (br_t h2 ⟨rfl, cv_mk ⟨hn, hq, ha, hfa, hx, D1, D2⟩⟩)
    · exact br_f h (br_f h2 (br_f h (br_f h2 ⟨rfl, cv_mk R⟩)))
end
