section
/-! pure rows to paste: stores, nI and lN arithmetic, masks, shifts, narrowing, branches by naturals (pk_le, pk_lt, pk_eq), loops (lp1 .. lp16: the measure of the state; rp1 ..: recursion), negatives. Take what you need -/
theorem pk_us {f : Nat → Int32} {k : Nat} {x : Int32} : upd f k x k = x := if_pos rfl
theorem pk_un {f : Nat → Int32} {k j : Nat} {x : Int32} (h : j ≠ k) : upd f k x j = f j := if_neg h
theorem pk_uLs {f : Nat → Int64} {k : Nat} {x : Int64} : vp_updL f k x k = x := if_pos rfl
theorem pk_uLn {f : Nat → Int64} {k j : Nat} {x : Int64} (h : j ≠ k) : vp_updL f k x j = f j := if_neg h
theorem pk_sub {a b : Nat} (h : b ≤ a) : nI a - nI b = nI (a - b) := by
  obtain ⟨c, rfl⟩ : ∃ c, a = c + b := ⟨a - b, by omega⟩
  rw [← nI_add, Int32.add_sub_cancel, Nat.add_sub_cancel]
theorem pk_m1 (n : Nat) : nI (n + 1) + (-1) = nI n := by
  rw [← nI_1, Int32.add_assoc, show (1 : Int32) + (-1) = 0 from rfl, Int32.add_zero]
theorem pk_mul (a b : Nat) : nI a * nI b = nI (a * b) := (Int32.ofNat_mul a b).symm
theorem pk_div {a d : Nat} (ha : a < 2 ^ 31) (h0 : 0 < d) (hd : d < 2 ^ 31) : nI a / nI d = nI (a / d) := by
  apply Int32.toInt_inj.mp
  rw [lg_idiv_nonneg (by rw [nI_toInt ha]; omega) (by rw [nI_toInt hd]; omega), nI_toInt ha, nI_toInt hd, nI_toInt (Nat.lt_of_le_of_lt (Nat.div_le_self a d) ha)]
  first | rfl | exact (Int.natCast_ediv _ _).symm
theorem pk_rem {a d : Nat} (ha : a < 2 ^ 31) (h0 : 0 < d) (hd : d < 2 ^ 31) : nI a - nI a / nI d * nI d = nI (a % d) := by
  rw [pk_div ha h0 hd, pk_mul, pk_sub (Nat.div_mul_le_self a d)]
  exact congrArg nI (by have := Nat.div_add_mod' a d; omega)
theorem pk_sub_toInt {a b : Nat} (ha : a < 2 ^ 30) (hb : b < 2 ^ 30) : (nI a - nI b).toInt = (a : Int) - b := by
  rw [Int32.toInt_sub, nI_toInt (by omega), nI_toInt (by omega)]
  exact Int.bmod_eq_of_le (by omega) (by omega)
theorem pk_sneg {a b : Nat} (hb : b < 2 ^ 30) (h : a < b) : nI a - nI b < 0 := by
  rw [Int32.lt_iff_toInt_lt, pk_sub_toInt (by omega) hb, show (0 : Int32).toInt = 0 from by decide]
  omega
theorem pk_ix (x : Int32) {n : Nat} (hn : n < 2 ^ 31) : x < 0 ∨ nI n ≤ x ∨ ∃ j : Nat, j < n ∧ x = nI j := by
  by_cases h : x < 0
  · exact Or.inl h
  · obtain ⟨j, hj, rfl⟩ := nI_of h
    by_cases h2 : j < n
    · exact Or.inr (Or.inr ⟨j, h2, rfl⟩)
    · exact Or.inr (Or.inl (nI_le (by omega) hj))
theorem pk_le {x y : Int32} {A B : Prop} (a b : Nat) (f : a ≤ b → A) (g : b < a → B) (hx : x = nI a := by rfl) (hy : y = nI b := by rfl) (ha : a < 2 ^ 31 := by omega) (hb : b < 2 ^ 31 := by omega) : (x ≤ y → A) ∧ (¬ x ≤ y → B) := by
  subst hx hy
  rw [nI_leI ha hb]
  exact ⟨f, fun z => g (by omega)⟩
theorem pk_lt {x y : Int32} {A B : Prop} (a b : Nat) (f : a < b → A) (g : b ≤ a → B) (hx : x = nI a := by rfl) (hy : y = nI b := by rfl) (ha : a < 2 ^ 31 := by omega) (hb : b < 2 ^ 31 := by omega) : (x < y → A) ∧ (¬ x < y → B) := by
  subst hx hy
  rw [nI_ltI ha hb]
  exact ⟨f, fun z => g (by omega)⟩
theorem pk_eq {x y : Int32} {A B : Prop} (a b : Nat) (f : a = b → A) (g : a ≠ b → B) (hx : x = nI a := by rfl) (hy : y = nI b := by rfl) (ha : a < 2 ^ 31 := by omega) (hb : b < 2 ^ 31 := by omega) : (x = y → A) ∧ (¬ x = y → B) := by
  subst hx hy
  rw [nI_eq ha hb]
  exact ⟨f, g⟩
theorem pk_in {x : Int32} (n N : Nat) (h : n < N) (hx : x = nI n := by rfl) (hN : N < 2 ^ 31 := by omega) : vp_in x N := by
  subst hx
  exact vp_in_nI h hN
theorem pk_cl {x : Int32} (n : Nat) (hx : x = nI n := by rfl) (h : n < 2 ^ 31 := by omega) : x.toNatClampNeg = n := by
  subst hx
  exact nI_clamp h
theorem pk_tn {n : Nat} (h : n < 2 ^ 32) : (nI n).toBitVec.toNat = n := Nat.mod_eq_of_lt h
theorem pk_and (x : Int32) {m : Int32} (k : Nat) (hm : m.toBitVec.toNat = 2 ^ k - 1) : x &&& m = nI (x.toBitVec.toNat % 2 ^ k) := by
  apply Int32.toBitVec_inj.mp
  apply BitVec.eq_of_toNat_eq
  rw [Int32.toBitVec_and, BitVec.toNat_and, hm, Nat.and_two_pow_sub_one_eq_mod]
  show _ = (BitVec.ofNat 32 _).toNat
  rw [BitVec.toNat_ofNat]
  exact (Nat.mod_eq_of_lt (Nat.lt_of_le_of_lt (Nat.mod_le _ _) x.toBitVec.isLt)).symm
theorem pk_andN {n : Nat} (h : n < 2 ^ 32) {m : Int32} (k : Nat) (hm : m.toBitVec.toNat = 2 ^ k - 1) : nI n &&& m = nI (n % 2 ^ k) := by
  rw [pk_and _ k hm, pk_tn h]
theorem pk_andE (x : Int32) {m : Int32} (k : Nat) (hm : m.toBitVec.toNat = 2 ^ k - 1) : ∃ j : Nat, j < 2 ^ k ∧ x &&& m = nI j := ⟨_, Nat.mod_lt _ (Nat.two_pow_pos k), pk_and x k hm⟩
theorem pk_andIn (x : Int32) {m : Int32} (k : Nat) (hm : m.toBitVec.toNat = 2 ^ k - 1) (hk : k ≤ 30) : vp_in (x &&& m) (2 ^ k) := by
  obtain ⟨j, hj, e⟩ := pk_andE x k hm
  rw [e]
  exact vp_in_nI hj (Nat.lt_of_le_of_lt (Nat.pow_le_pow_right (by decide) hk) (by decide))
theorem pk_shl (a s : Int32) (k : Nat) (hs : (s.toBitVec.smod 32).toNat = k) : (a <<< s).toBitVec.toNat = a.toBitVec.toNat * 2 ^ k % 2 ^ 32 := by
  show (a.toBitVec <<< (s.toBitVec.smod 32).toNat).toNat = _
  rw [hs, BitVec.toNat_shiftLeft, Nat.shiftLeft_eq]
theorem pk_shlN {n : Nat} (s : Int32) (k : Nat) (hs : (s.toBitVec.smod 32).toNat = k) (h : n * 2 ^ k < 2 ^ 32) : nI n <<< s = nI (n * 2 ^ k) := by
  apply Int32.toBitVec_inj.mp
  apply BitVec.eq_of_toNat_eq
  have hn : n < 2 ^ 32 := Nat.lt_of_le_of_lt (Nat.le_mul_of_pos_right n (Nat.two_pow_pos k)) h
  rw [pk_shl _ _ k hs, pk_tn hn, pk_tn h, Nat.mod_eq_of_lt h]
theorem pk_shr (a s : Int32) (k : Nat) (hs : (s.toBitVec.smod 32).toNat = k) : (a >>> s).toInt = a.toInt >>> k := by
  show (a.toBitVec.sshiftRight (s.toBitVec.smod 32).toNat).toInt = _
  rw [hs, BitVec.toInt_sshiftRight]
  rfl
theorem pk_shrN {n : Nat} (h : n < 2 ^ 31) (s : Int32) (k : Nat) (hs : (s.toBitVec.smod 32).toNat = k) : nI n >>> s = nI (n / 2 ^ k) := by
  apply Int32.toInt_inj.mp
  have h2 : n / 2 ^ k ≤ n := Nat.div_le_self _ _
  rw [pk_shr _ _ k hs, nI_toInt h, nI_toInt (by omega), Int.shiftRight_eq_div_pow]
  rfl
theorem pk_ushr (x s : Int32) (k : Nat) (hs : ((s.toUInt32 &&& Int32.toUInt32 31).toBitVec % 32).toNat = k) : (x.toUInt32 >>> (s.toUInt32 &&& Int32.toUInt32 31)).toInt32.toBitVec.toNat = x.toBitVec.toNat / 2 ^ k := by
  have e : (x.toUInt32 >>> (s.toUInt32 &&& Int32.toUInt32 31)).toInt32.toBitVec = x.toBitVec >>> k := by
    rw [← hs]
    exact UInt32.toBitVec_shiftRight _ _
  rw [e, BitVec.toNat_ushiftRight, Nat.shiftRight_eq_div_pow]
theorem pk_ushrN {n : Nat} (hn : n < 2 ^ 32) (s : Int32) (k : Nat) (hs : ((s.toUInt32 &&& Int32.toUInt32 31).toBitVec % 32).toNat = k) : ((nI n).toUInt32 >>> (s.toUInt32 &&& Int32.toUInt32 31)).toInt32 = nI (n / 2 ^ k) := by
  apply Int32.toBitVec_inj.mp
  apply BitVec.eq_of_toNat_eq
  rw [pk_ushr _ s k hs, pk_tn hn, pk_tn (Nat.lt_of_le_of_lt (Nat.div_le_self _ _) hn)]
theorem pk_loop {σ : Type} (W : Nat → Nat → σ → Prop) (I : Nat → σ → Prop) (e i0 : Nat) (s : σ) (hi : i0 ≤ e) (h0 : I i0 s) (hx : ∀ n s, I e s → W (n + 1) e s)
    (hs : ∀ n i s, i < e → I i s → (∀ s', I (i + 1) s' → W n (i + 1) s') → W (n + 1) i s) : ∃ n, W n i0 s :=
  ⟨e + 1, loop_i W I e hx hs (e + 1) i0 s hi (by omega) h0⟩
theorem pk_loopD {σ : Type} (W : Nat → Nat → σ → Prop) (I : Nat → σ → Prop) (hx : ∀ n s, I 0 s → W (n + 1) 0 s)
    (hs : ∀ n i s, I (i + 1) s → (∀ s', I i s' → W n i s') → W (n + 1) (i + 1) s) : ∀ (e : Nat) (s : σ), I e s → W (e + 1) e s := by
  intro e
  induction e with
  | zero => exact fun s h => hx 0 s h
  | succ e ih => exact fun s h => hs (e + 1) e s h (fun s' h' => ih s' h')
theorem pk_least (P : Nat → Prop) (h : ∃ k, P k) : ∃ k, P k ∧ ∀ j, j < k → ¬ P j := by
  obtain ⟨k, hk⟩ := h
  induction k using Nat.strongRecOn with
  | ind k ih =>
    by_cases e : ∃ j, j < k ∧ P j
    · obtain ⟨j, hj, pj⟩ := e
      exact ih j hj pj
    · exact ⟨k, hk, fun j hj pj => e ⟨j, hj, pj⟩⟩
theorem s_l : ∀ n, n < 32 → ((nI n &&& 31).toBitVec.smod 32).toNat = n := by decide +kernel
theorem nx_and (a b : Nat) : nI a &&& nI b = nI (a &&& b) := by
  apply Int32.toBitVec_inj.1
  show BitVec.ofNat 32 a &&& BitVec.ofNat 32 b = BitVec.ofNat 32 (a &&& b)
  apply BitVec.eq_of_getLsbD_eq
  intro i hi
  simp [hi]
theorem nx_xor (a b : Nat) : nI a ^^^ nI b = nI (a ^^^ b) := by
  apply Int32.toBitVec_inj.1
  show BitVec.ofNat 32 a ^^^ BitVec.ofNat 32 b = BitVec.ofNat 32 (a ^^^ b)
  apply BitVec.eq_of_getLsbD_eq
  intro i hi
  simp [hi]
end
section
section
/-! sums, counts, stores of naturals -/
theorem db_or (a b : Nat) : nI a ||| nI b = nI (a ||| b) := by
  apply Int32.toBitVec_inj.1
  show BitVec.ofNat 32 a ||| BitVec.ofNat 32 b = BitVec.ofNat 32 (a ||| b)
  apply BitVec.eq_of_getLsbD_eq
  intro i hi
  simp [hi]
theorem db_inj {a b : Nat} (ha : a < 2 ^ 31) (hb : b < 2 ^ 31) (h : nI a = nI b) : a = b := (nI_eq ha hb).mp h
theorem db_eq0 {a : Nat} (h : a < 2 ^ 31) : nI a = 0 ↔ a = 0 := by
  rw [← nI_0, nI_eq h (by omega)]
def db_up (f : Nat → Nat) (k x : Nat) : Nat → Nat := fun j => if j = k then x else f j
theorem db_us {f : Nat → Nat} {k x : Nat} : db_up f k x k = x := if_pos rfl
theorem db_un {f : Nat → Nat} {k x j : Nat} (h : j ≠ k) : db_up f k x j = f j := if_neg h
def db_N (f : Nat → Nat) : Nat → Int32 := fun i => nI (f i)
theorem db_Nu (f : Nat → Nat) (k x : Nat) : upd (db_N f) k (nI x) = db_N (db_up f k x) := by
  funext j
  show (if j = k then nI x else nI (f j)) = nI (if j = k then x else f j)
  split <;> rfl
/-- a piece, or GONE (33), or NONE (34 and above) -/
def db_e (x : Nat) : Int32 := if x < 33 then nI x else if x = 33 then -5 else -4
def db_E (f : Nat → Nat) : Nat → Int32 := fun i => db_e (f i)
theorem db_e_p {x : Nat} (h : x < 33) : db_e x = nI x := if_pos h
theorem db_e_33 : db_e 33 = -5 := by decide
theorem db_e_34 : db_e 34 = -4 := by decide
theorem db_e_n {x : Nat} (h : 34 ≤ x) : db_e x = -4 := by
  unfold db_e
  rw [if_neg (by omega), if_neg (by omega)]
theorem db_Eu (f : Nat → Nat) (k x : Nat) {y : Int32} (h : y = db_e x) : upd (db_E f) k y = db_E (db_up f k x) := by
  subst h
  funext j
  show (if j = k then db_e x else db_e (f j)) = db_e (if j = k then x else f j)
  split <;> rfl
theorem db_e_neg {x : Nat} (h : 33 ≤ x) : db_e x < 0 := by
  unfold db_e
  rw [if_neg (by omega)]
  split <;> decide
theorem db_e_nneg {x : Nat} (h : x < 33) : ¬ db_e x < 0 := by
  rw [db_e_p h]
  exact nI_pos (by omega)
theorem db_e_le {x : Nat} (h : x < 33) : 0 ≤ db_e x := by
  rw [db_e_p h]
  exact nI_pos' (by omega)
theorem db_e_nle {x : Nat} (h : 33 ≤ x) : ¬ 0 ≤ db_e x := fun z => Int32.not_lt.mpr z (db_e_neg h)
theorem db_e_4 {x : Nat} (h : x < 34) : ¬ db_e x = -4 := by
  by_cases h1 : x < 33
  · intro e
    have := db_e_nneg h1
    rw [e] at this
    exact this (by decide)
  · have : x = 33 := by omega
    rw [this, db_e_33]
    decide
theorem db_e_inj {x y : Nat} (hx : x < 33) (h : db_e x = db_e y) : x = y := by
  by_cases h1 : y < 33
  · rw [db_e_p hx, db_e_p h1] at h
    exact db_inj (by omega) (by omega) h
  · have a := db_e_nneg hx
    rw [h] at a
    exact absurd (db_e_neg (by omega)) a

theorem db_ifc {p q : Prop} {a b : Nat} {_ : Decidable p} {_ : Decidable q} (h : p ↔ q) : (if p then a else b) = (if q then a else b) := by
  by_cases hp : p
  · rw [if_pos hp, if_pos (h.mp hp)]
  · rw [if_neg hp, if_neg (fun z => hp (h.mpr z))]
def db_sm : Nat → (Nat → Nat) → Nat
  | 0, _ => 0
  | n + 1, f => db_sm n f + f n
theorem db_sm_s (n : Nat) (f : Nat → Nat) : db_sm (n + 1) f = db_sm n f + f n := rfl
theorem db_sm_c {f g : Nat → Nat} : ∀ n, (∀ i, i < n → f i = g i) → db_sm n f = db_sm n g := by
  intro n
  induction n with
  | zero => exact fun _ => rfl
  | succ n ih =>
    intro h
    rw [db_sm_s, db_sm_s, ih (fun i hi => h i (by omega)), h n (by omega)]
theorem db_sm_u {f g : Nat → Nat} {k : Nat} : ∀ n, k < n → (∀ i, i < n → i ≠ k → f i = g i) → db_sm n f + g k = db_sm n g + f k := by
  intro n
  induction n with
  | zero => exact fun h => absurd h (Nat.not_lt_zero _)
  | succ n ih =>
    intro h e
    rw [db_sm_s, db_sm_s]
    by_cases hk : k = n
    · subst hk
      rw [db_sm_c (f := f) (g := g) k (fun i hi => e i (by omega) (by omega))]
      omega
    · have h1 := ih (by omega) (fun i hi hne => e i (by omega) hne)
      have h2 := e n (by omega) (by omega)
      omega
theorem db_sm_0 {f : Nat → Nat} : ∀ n, (∀ i, i < n → f i = 0) → db_sm n f = 0 := by
  intro n
  induction n with
  | zero => exact fun _ => rfl
  | succ n ih =>
    intro h
    rw [db_sm_s, ih (fun i hi => h i (by omega)), h n (by omega)]
theorem db_sm_1 {f : Nat → Nat} {k n : Nat} (hk : k < n) (h : ∀ i, i < n → i ≠ k → f i = 0) : db_sm n f = f k := by
  have h1 := db_sm_u (f := f) (g := fun _ => 0) n hk h
  have h2 : db_sm n (fun _ => 0) = 0 := db_sm_0 n (fun _ _ => rfl)
  try simp only at h1
  omega
theorem db_sm_le {f g : Nat → Nat} : ∀ n, (∀ i, i < n → f i ≤ g i) → db_sm n f ≤ db_sm n g := by
  intro n
  induction n with
  | zero => exact fun _ => Nat.le_refl _
  | succ n ih =>
    intro h
    rw [db_sm_s, db_sm_s]
    exact Nat.add_le_add (ih (fun i hi => h i (by omega))) (h n (by omega))
theorem db_sm_t {f : Nat → Nat} {k : Nat} : ∀ n, k < n → f k ≤ db_sm n f := by
  intro n
  induction n with
  | zero => exact fun h => absurd h (Nat.not_lt_zero _)
  | succ n ih =>
    intro h
    rw [db_sm_s]
    by_cases hk : k = n
    · subst hk
      omega
    · have := ih (by omega)
      omega
theorem db_sm_add {f g : Nat → Nat} : ∀ n, db_sm n (fun i => f i + g i) = db_sm n f + db_sm n g := by
  intro n
  induction n with
  | zero => rfl
  | succ n ih =>
    rw [db_sm_s, db_sm_s, db_sm_s, ih]
    omega
theorem db_sm_mul {f : Nat → Nat} (w : Nat) : ∀ n, db_sm n (fun i => f i * w) = db_sm n f * w := by
  intro n
  induction n with
  | zero => exact (Nat.zero_mul w).symm
  | succ n ih =>
    rw [db_sm_s, db_sm_s, ih, Nat.add_mul]
theorem db_sm_comm {f : Nat → Nat → Nat} (m : Nat) : ∀ n, db_sm n (fun i => db_sm m (fun j => f i j)) = db_sm m (fun j => db_sm n (fun i => f i j)) := by
  intro n
  induction n with
  | zero => exact (db_sm_0 m (fun _ _ => rfl)).symm
  | succ n ih =>
    rw [db_sm_s, ih]
    exact (db_sm_add (f := fun j => db_sm n (fun i => f i j)) (g := fun j => f n j) m).symm
theorem db_sm_pos {f : Nat → Nat} : ∀ n, 0 < db_sm n f → ∃ i, i < n ∧ 0 < f i := by
  intro n
  induction n with
  | zero => exact fun h => absurd h (Nat.lt_irrefl 0)
  | succ n ih =>
    intro h
    rw [db_sm_s] at h
    by_cases h1 : 0 < f n
    · exact ⟨n, by omega, h1⟩
    · obtain ⟨i, hi, hp⟩ := ih (by omega)
      exact ⟨i, by omega, hp⟩
/-- how many of the first k hold c -/
def db_ck (k : Nat) (a : Nat → Nat) (c : Nat) : Nat := db_sm k (fun n => if a n = c then 1 else 0)
theorem db_ck_s (k : Nat) (a : Nat → Nat) (c : Nat) : db_ck (k + 1) a c = db_ck k a c + (if a k = c then 1 else 0) := rfl
theorem db_ck_le (a : Nat → Nat) (c : Nat) : ∀ k, db_ck k a c ≤ k := by
  intro k
  induction k with
  | zero => exact Nat.le_refl _
  | succ k ih =>
    rw [db_ck_s]
    split <;> omega
theorem db_ck_pos {k : Nat} {a : Nat → Nat} {c : Nat} : 0 < db_ck k a c ↔ ∃ n, n < k ∧ a n = c := by
  constructor
  · intro h
    obtain ⟨n, hn, hp⟩ := db_sm_pos k h
    refine ⟨n, hn, ?_⟩
    by_cases e : a n = c
    · exact e
    · simp only [if_neg e] at hp
      omega
  · rintro ⟨n, hn, e⟩
    have h := db_sm_t (f := fun n => if a n = c then 1 else 0) k hn
    simp only [if_pos e] at h
    exact h
theorem db_ck_c {k : Nat} {a b : Nat → Nat} {c : Nat} (h : ∀ n, n < k → a n = b n) : db_ck k a c = db_ck k b c :=
  db_sm_c k (fun i hi => by rw [h i hi])
/-- a store changes two counts -/
theorem db_ck_u {k n x c : Nat} {a : Nat → Nat} (hn : n < k) : db_ck k (db_up a n x) c + (if a n = c then 1 else 0) = db_ck k a c + (if x = c then 1 else 0) := by
  have h := db_sm_u (f := fun i => if db_up a n x i = c then 1 else 0) (g := fun i => if a i = c then 1 else 0) (k := n) k hn (fun i _ hne => by
    show (if db_up a n x i = c then 1 else 0) = (if a i = c then 1 else 0)
    rw [db_un hne])
  simp only [db_us] at h
  exact h
/-- a sum over the live pieces is a sum over the contents held -/
theorem db_tr {us ct N w : Nat → Nat} (h1 : ∀ p, p < 33 → 0 < us p → 0 < ct p ∧ ct p < 4096 ∧ 0 < N (ct p))
    (h2 : ∀ c, c < 4096 → 0 < c → 0 < N c → ∃ p, p < 33 ∧ 0 < us p ∧ ct p = c)
    (h3 : ∀ p q, p < 33 → q < 33 → 0 < us p → 0 < us q → ct p = ct q → p = q) :
    db_sm 33 (fun p => if 0 < us p then w (ct p) else 0) = db_sm 4096 (fun c => if 0 < c ∧ 0 < N c then w c else 0) := by
  have e1 : db_sm 33 (fun p => if 0 < us p then w (ct p) else 0) = db_sm 33 (fun p => db_sm 4096 (fun c => if 0 < us p ∧ ct p = c then w c else 0)) := by
    refine db_sm_c 33 (fun p hp => ?_)
    by_cases hu : 0 < us p
    · have e := db_sm_1 (f := fun c => if 0 < us p ∧ ct p = c then w c else 0) (h1 p hp hu).2.1 (fun i _ hne => if_neg (fun z => hne z.2.symm))
      rw [e, if_pos hu]
      exact (if_pos ⟨hu, rfl⟩).symm
    · rw [if_neg hu]
      exact (db_sm_0 4096 (fun i _ => if_neg (fun z => hu z.1))).symm
  rw [e1, db_sm_comm]
  refine db_sm_c 4096 (fun c hc => ?_)
  by_cases h : 0 < c ∧ 0 < N c
  · obtain ⟨p, hp, hu, e⟩ := h2 c hc h.1 h.2
    have e2 := db_sm_1 (f := fun p => if 0 < us p ∧ ct p = c then w c else 0) hp (fun i hi hne => if_neg (fun z => hne (h3 i p hi hp z.1 hu (z.2.trans e.symm))))
    rw [e2, if_pos h]
    exact if_pos ⟨hu, e⟩
  · rw [if_neg h]
    refine db_sm_0 33 (fun p hp => if_neg (fun z => h ?_))
    have := h1 p hp z.1
    rw [z.2] at this
    exact ⟨this.1, this.2.2⟩
/-- the same counted by blocks -/
theorem db_trn {con w : Nat → Nat} {k : Nat} (h : ∀ n, n < k → con n < 4096) : db_sm k (fun n => w (con n)) = db_sm 4096 (fun c => db_ck k con c * w c) := by
  have e1 : db_sm k (fun n => w (con n)) = db_sm k (fun n => db_sm 4096 (fun c => (if con n = c then 1 else 0) * w c)) := by
    refine db_sm_c k (fun n hn => ?_)
    have e := db_sm_1 (f := fun c => (if con n = c then 1 else 0) * w c) (h n hn) (fun i _ hne => by
      show (if con n = i then 1 else 0) * w i = 0
      rw [if_neg (fun z => hne z.symm), Nat.zero_mul])
    rw [e]
    show _ = (if con n = con n then 1 else 0) * w (con n)
    rw [if_pos rfl, Nat.one_mul]
  rw [e1, db_sm_comm]
  exact db_sm_c 4096 (fun c _ => db_sm_mul (f := fun n => if con n = c then 1 else 0) (w c) k)
end
end
section
section
/-! packing, pure: the runs of the four digits, the last run first -/
def db_dg (c i : Nat) : Nat := c / 8 ^ i % 8
def db_rs (l : List Nat) (d : Nat) : List Nat := match l with
  | [] => [d + 8]
  | x :: t => if x % 8 = d then (x + 8) :: t else (d + 8) :: x :: t
def db_rp (c : Nat) : Nat → List Nat
  | 0 => []
  | i + 1 => db_rs (db_rp c i) (db_dg c i)
theorem db_rp_s (c i : Nat) : db_rp c (i + 1) = db_rs (db_rp c i) (db_dg c i) := rfl
/-- how many digits the runs have -/
def db_T : List Nat → Nat
  | [] => 0
  | x :: t => db_T t + x / 8
/-- the runs say the digits of c -/
def db_G (c : Nat) : List Nat → Prop
  | [] => True
  | x :: t => (∀ k, k < x / 8 → db_dg c (db_T t + k) = x % 8) ∧ 0 < x / 8 ∧ db_G c t
def db_pz (c : Nat) : Nat := (db_rp c 4).length + 1
def db_pk (c i : Nat) : Nat := if i = 0 then db_pz c - 1 else (db_rp c 4).getD (db_pz c - 1 - i) 0
def db_rm (c : Nat) : Nat := if c = 0 then 0 else db_pz c
theorem db_dg_lt (c i : Nat) : db_dg c i < 8 := Nat.mod_lt _ (by decide)
theorem db_rs_G {c d : Nat} (hd : d < 8) : ∀ {l : List Nat}, db_G c l → db_dg c (db_T l) = d → db_G c (db_rs l d) ∧ db_T (db_rs l d) = db_T l + 1 := by
  intro l
  cases l with
  | nil =>
    intro _ e
    refine ⟨⟨fun k hk => ?_, ?_, trivial⟩, ?_⟩
    · have : k = 0 := by omega
      subst this
      show db_dg c (db_T []) = _
      omega
    · omega
    · show 0 + (d + 8) / 8 = 0 + 1
      omega
  | cons x t =>
    intro h e
    obtain ⟨h1, h2, h3⟩ := h
    by_cases hx : x % 8 = d
    · have e1 : db_rs (x :: t) d = (x + 8) :: t := if_pos hx
      rw [e1]
      refine ⟨⟨fun k hk => ?_, by omega, h3⟩, ?_⟩
      · by_cases hk2 : k < x / 8
        · rw [h1 k hk2]
          omega
        · have : k = x / 8 := by omega
          subst this
          show db_dg c (db_T (x :: t)) = _
          omega
      · show db_T t + (x + 8) / 8 = db_T t + x / 8 + 1
        omega
    · have e1 : db_rs (x :: t) d = (d + 8) :: x :: t := if_neg hx
      rw [e1]
      refine ⟨⟨fun k hk => ?_, by omega, h1, h2, h3⟩, ?_⟩
      · have : k = 0 := by omega
        subst this
        show db_dg c (db_T (x :: t)) = _
        omega
      · show db_T (x :: t) + (d + 8) / 8 = db_T (x :: t) + 1
        omega
theorem db_rp_G (c : Nat) : ∀ i, db_G c (db_rp c i) ∧ db_T (db_rp c i) = i := by
  intro i
  induction i with
  | zero => exact ⟨trivial, rfl⟩
  | succ i ih =>
    have h := db_rs_G (c := c) (db_dg_lt c i) ih.1 (by rw [ih.2])
    rw [ih.2] at h
    exact h
theorem db_G_len {c : Nat} : ∀ {l : List Nat}, db_G c l → l.length ≤ db_T l := by
  intro l
  induction l with
  | nil => exact fun _ => Nat.le_refl _
  | cons x t ih =>
    intro h
    have h1 := ih h.2.2
    have h2 := h.2.1
    show t.length + 1 ≤ db_T t + x / 8
    omega
theorem db_rs_ne (l : List Nat) (d : Nat) : 0 < (db_rs l d).length := by
  unfold db_rs
  split
  · exact Nat.succ_pos _
  · split <;> exact Nat.succ_pos _
theorem db_pz_b (c : Nat) : 2 ≤ db_pz c ∧ db_pz c ≤ 5 := by
  have h1 := db_rp_G c 4
  have h2 := db_G_len h1.1
  have h3 : 0 < (db_rp c 4).length := db_rs_ne _ _
  unfold db_pz
  omega
theorem db_rm_le (c : Nat) : db_rm c ≤ 5 := by
  have := db_pz_b c
  unfold db_rm
  split <;> omega
theorem db_rm_0 : db_rm 0 = 0 := if_pos rfl
theorem db_rm_p {c : Nat} (h : 0 < c) : db_rm c = db_pz c := if_neg (by omega)
theorem db_G_drop {c : Nat} : ∀ (l : List Nat) (j : Nat), db_G c l → db_G c (l.drop j) := by
  intro l
  induction l with
  | nil =>
    intro j h
    rw [List.drop_nil]
    exact h
  | cons x t ih =>
    intro j h
    cases j with
    | zero => exact h
    | succ j => exact ih j h.2.2
theorem db_T_drop : ∀ (l : List Nat) (j : Nat), db_T (l.drop j) ≤ db_T l := by
  intro l
  induction l with
  | nil =>
    intro j
    rw [List.drop_nil]
    exact Nat.le_refl _
  | cons x t ih =>
    intro j
    cases j with
    | zero => exact Nat.le_refl _
    | succ j => exact Nat.le_trans (ih j) (Nat.le_add_right _ _)
theorem db_drop_s : ∀ (l : List Nat) (j : Nat), j < l.length → l.drop j = l.getD j 0 :: l.drop (j + 1) := by
  intro l
  induction l with
  | nil => exact fun j h => absurd h (Nat.not_lt_zero _)
  | cons x t ih =>
    intro j h
    cases j with
    | zero => rfl
    | succ j => exact ih j (Nat.lt_of_succ_lt_succ h)
theorem db_mod_s (c g : Nat) : c % 8 ^ (g + 1) = c % 8 ^ g + db_dg c g * 8 ^ g := by
  rw [Nat.mod_pow_succ, Nat.mul_comm]
  rfl
/-- a digit, by shift and mask -/
theorem db_dgI {c i : Nat} (hc : c < 2 ^ 31) (hi : i < 4) : (nI c >>> ((3 * nI i) &&& 31)) &&& 7 = nI (db_dg c i) := by
  have e : (3 : Int32) * nI i = nI (3 * i) := pk_mul 3 i
  have h1 : c / 2 ^ (3 * i) ≤ c := Nat.div_le_self _ _
  rw [e, pk_shrN hc _ (3 * i) (s_l (3 * i) (by omega)), pk_andN (by omega) 3 (by decide)]
  show nI (c / 2 ^ (3 * i) % 2 ^ 3) = nI (c / (2 ^ 3) ^ i % 2 ^ 3)
  rw [Nat.pow_mul]
theorem db_pw : ∀ i, i < 4 → 8 ^ i ≤ 512 := by decide
theorem db_shlI {x g : Nat} (hx : x < 8) (hg : g < 4) : nI x <<< ((3 * nI g) &&& 31) = nI (x * 8 ^ g) := by
  have e : (3 : Int32) * nI g = nI (3 * g) := pk_mul 3 g
  have e2 : 2 ^ (3 * g) = 8 ^ g := Nat.pow_mul 2 3 g
  have h1 := db_pw g hg
  have h2 : x * 8 ^ g ≤ 7 * 512 := Nat.mul_le_mul (by omega) h1
  rw [e, pk_shlN _ (3 * g) (s_l (3 * g) (by omega)) (by rw [e2]; omega), e2]
theorem db_orI {a x g : Nat} (ha : a < 8 ^ g) (hg : g < 4) (hx : x < 2 ^ 31) : nI a ||| ((nI x &&& 7) <<< ((3 * nI g) &&& 31)) = nI (a + x % 8 * 8 ^ g) := by
  have e2 : 2 ^ (3 * g) = 8 ^ g := Nat.pow_mul 2 3 g
  rw [pk_andN (by omega) 3 (by decide)]
  show nI a ||| (nI (x % 8) <<< _) = _
  rw [db_shlI (Nat.mod_lt _ (by decide)) hg, db_or]
  have h := Nat.two_pow_add_eq_or_of_lt (i := 3 * g) (b := a) (by rw [e2]; exact ha) (x % 8)
  rw [e2] at h
  rw [Nat.or_comm, Nat.mul_comm (x % 8), ← h, Nat.add_comm]
/-- the place where a search begins -/
def db_h (c : Nat) : Nat := c * 40503 / 128 % 64
theorem db_h_lt (c : Nat) : db_h c < 64 := Nat.mod_lt _ (by decide)
theorem db_hI {c : Nat} (hc : c < 4096) : ((nI c * 40503) >>> ((7 : Int32) &&& 31)) &&& 63 = nI (db_h c) := by
  have e : nI c * 40503 = nI (c * 40503) := pk_mul c 40503
  have h1 : c * 40503 / 2 ^ 7 ≤ c * 40503 := Nat.div_le_self _ _
  rw [e, pk_shrN (by omega) _ 7 (by decide), pk_andN (by omega) 6 (by decide)]
  rfl
end
end
section
section
variable {fo fu fz : Int32} {aH aU aS aP aZ aC aF aL aT aK aQ : Nat → Int32}
/-! pack and contentOf: walks -/
def db_bf : List Nat → Int32
  | [] => -1
  | x :: _ => nI (x % 8)
/-- the array q holds the runs l behind its first cell -/
def db_Q (l : List Nat) (q : Nat → Int32) : Prop := ∀ j, j < l.length → q (l.length - j) = nI (l.getD j 0)
theorem db_ne1 {a : Nat} (h : a < 2 ^ 31) : ¬ nI a = -1 := by
  intro e
  have := nI_pos (n := a) h
  rw [e] at this
  exact this (by decide)
theorem db_ne4 {a : Nat} (h : a < 2 ^ 31) : ¬ nI a = -4 := by
  intro e
  have := nI_pos (n := a) h
  rw [e] at this
  exact this (by decide)
theorem db_rs_or (l : List Nat) {g : Nat} (hg : g < 8) : (∃ x t, l = x :: t ∧ x % 8 = g) ∨ (¬ nI g = db_bf l ∧ db_rs l g = (g + 8) :: l) := by
  cases l with
  | nil => exact Or.inr ⟨db_ne1 (by omega), rfl⟩
  | cons x t =>
    by_cases h : x % 8 = g
    · exact Or.inl ⟨x, t, rfl, h⟩
    · refine Or.inr ⟨fun z => h ?_, if_neg h⟩
      exact (db_inj (by omega) (by omega) z).symm
theorem db_bf_rs (l : List Nat) {g : Nat} (hg : g < 8) : db_bf (db_rs l g) = nI g := by
  rcases db_rs_or l hg with ⟨x, t, rfl, h⟩ | ⟨_, e⟩
  · have e : db_rs (x :: t) g = (x + 8) :: t := if_pos h
    rw [e]
    exact congrArg nI (by omega)
  · rw [e]
    exact congrArg nI (by omega)
theorem db_Q_a {x : Nat} {t : List Nat} {q : Nat → Int32} (h : db_Q (x :: t) q) : db_Q ((x + 8) :: t) (upd q (t.length + 1) (nI (x + 8))) := by
  intro j hj
  cases j with
  | zero => exact pk_us
  | succ j =>
    have h1 := h (j + 1) hj
    rw [pk_un]
    · exact h1
    · have : ((x + 8) :: t).length = t.length + 1 := rfl
      omega
theorem db_Q_b {x : Nat} {l : List Nat} {q : Nat → Int32} (h : db_Q l q) : db_Q (x :: l) (upd q (l.length + 1) (nI x)) := by
  intro j hj
  have e : (x :: l).length = l.length + 1 := rfl
  cases j with
  | zero => exact pk_us
  | succ j =>
    have h1 := h j (by omega)
    rw [pk_un (by omega), show (x :: l).length - (j + 1) = l.length - j by omega]
    exact h1
theorem db_pack9 {post : SX → Prop} {c : Nat} (hc : c < 4096) (K : ∀ q : Nat → Int32, (∀ i, i < db_pz c → q i = nI (db_pk c i)) → post (fo, fu, nI (db_pz c), aH, aU, aS, aP, aZ, aC, aF, aL, aT, aK, q)) :
    ∀ (d i : Nat) (q : Nat → Int32), i + d = 4 → db_Q (db_rp c i) q → wX_pack_9 post (nI c) fo fu (d + 1) (db_bf (db_rp c i)) (nI i) (nI ((db_rp c i).length + 1)) aH aU aS aP aZ aC aF aL aT aK q := by
  intro d
  induction d with
  | zero =>
    intro i q hi hq
    have : i = 4 := by omega
    subst this
    refine br_t (nI_le (a := 4) (b := 4) (by omega) (by decide)) (nm_r (e' := upd q 0 (nI (db_pz c - 1))) ?_ (K _ ?_))
    · rw [nI_pred]
      rfl
    · intro i hi
      by_cases h0 : i = 0
      · subst h0
        rw [pk_us]
        rfl
      · rw [pk_un h0]
        have e : db_pz c = (db_rp c 4).length + 1 := rfl
        have h1 := hq ((db_rp c 4).length - i) (by omega)
        rw [show (db_rp c 4).length - ((db_rp c 4).length - i) = i by omega] at h1
        rw [h1]
        unfold db_pk
        rw [if_neg h0, show db_pz c - 1 - i = (db_rp c 4).length - i by omega]
  | succ d ih =>
    intro i q hi hq
    have hi4 : i < 4 := by omega
    have hl : (db_rp c i).length ≤ i := by
      have h1 := db_rp_G c i
      have h2 := db_G_len h1.1
      omega
    refine br_f (nI_ge (a := i) (b := 4) hi4 (by decide)) (nm_r (db_dgI (by omega) hi4) ?_)
    have hg := db_dg_lt c i
    have ih' := fun q' h => ih (i + 1) q' (by omega) h
    rw [db_rp_s] at ih'
    generalize db_rp c i = l at hq hl ih' ⊢
    generalize db_dg c i = g at hg ih' ⊢
    rw [db_bf_rs l hg] at ih'
    rcases db_rs_or l hg with ⟨x, t, rfl, h⟩ | ⟨hne, e⟩
    · have e : db_rs (x :: t) g = (x + 8) :: t := if_pos h
      rw [e] at ih'
      have e1 : nI ((x :: t).length + 1) - 1 = nI (t.length + 1) := nI_pred _
      have h5 : t.length + 1 < 5 := by
        have : (x :: t).length = t.length + 1 := rfl
        omega
      have hv : vp_in (nI ((x :: t).length + 1) - 1) 5 := by
        rw [e1]
        exact vp_in_nI h5 (by decide)
      have hq0 : q (t.length + 1) = nI x := hq 0 (Nat.succ_pos _)
      refine br_t (congrArg nI h.symm) ⟨hv, hv, nm_r (e' := upd q (t.length + 1) (nI (x + 8))) ?_ (nm_r (nI_1 i) (ih' _ (db_Q_a hq)))⟩
      rw [e1, nI_clamp (by omega), hq0]
      exact congrArg _ (nI_add x 8)
    · rw [e] at ih'
      refine br_f hne ⟨vp_in_nI (by omega) (by decide), nm_r (e' := upd q (l.length + 1) (nI (g + 8))) ?_ (nm_r (nI_1 _) (nm_r (nI_1 i) (ih' _ (db_Q_b hq))))⟩
      rw [nI_clamp (by omega)]
      exact congrArg _ (nI_add g 8)
theorem db_pack {post : SX → Prop} {c : Nat} (hc : c < 4096) (K : ∀ q : Nat → Int32, (∀ i, i < db_pz c → q i = nI (db_pk c i)) → post (fo, fu, nI (db_pz c), aH, aU, aS, aP, aZ, aC, aF, aL, aT, aK, q)) : wpX_pack post (fo, fu, fz, aH, aU, aS, aP, aZ, aC, aF, aL, aT, aK, aQ) (nI c) :=
  ⟨5, db_pack9 hc K 4 0 aQ rfl (fun j h => absurd h (Nat.not_lt_zero _))⟩
/-- at segment s and place l the cells hold the content c, packed -/
def db_st (s l : Nat) (aC : Nat → Int32) (c : Nat) : Prop := c < 4096 ∧ 8 * s + l + db_pz c ≤ 80 ∧ ∀ i, i < db_pz c → aC (8 * s + l + i) = nI (db_pk c i)
theorem db_co56 {post : Int32 → Prop} {J : Int32 → Int32 → Int32 → Prop} {c x r g m : Nat} {x2 : Int32} (hm : m = x / 8) (hx : x < 2 ^ 31) (hg : g + m ≤ 4)
    (hdg : ∀ k, k < m → db_dg c (g + k) = x % 8) (K : J (nI (c % 8 ^ (g + m))) (nI (g + m)) (nI (r + 1))) :
    ∀ d k, k + d = m → wX_contentOf_56 post J x2 (nI r) (nI x) fo fu fz aH aU aS aP aZ aC aF aL aT aK aQ (d + 1) (nI (c % 8 ^ (g + k))) (nI (g + k)) (nI k) := by
  have e : nI x >>> ((3 : Int32) &&& 31) = nI m := by
    rw [pk_shrN hx _ 3 (by decide), hm]
  intro d
  induction d with
  | zero =>
    intro k hk
    have : k = m := by omega
    subst this
    exact br_t (by rw [e]; exact Int32.le_refl _) (nm_r (nI_1 r) K)
  | succ d ih =>
    intro k hk
    have hk' : k < m := by omega
    refine br_f (by rw [e]; exact nI_ge hk' (by omega)) (br_f (nI_ge (b := 4) (by omega) (by decide)) (nm_r (e' := nI (c % 8 ^ (g + (k + 1)))) ?_ (nm_r (e' := nI (g + (k + 1))) (nI_1 _) (nm_r (nI_1 k) (ih (k + 1) (by omega))))))
    rw [db_orI (Nat.mod_lt _ (Nat.pow_pos (by decide))) (by omega) hx, ← hdg k hk', ← db_mod_s]
    rfl
theorem db_co31 {post : Int32 → Prop} {c s l : Nat} (hS : db_st s l aC c) (K : post (nI c)) :
    ∀ j, j ≤ (db_rp c 4).length → wX_contentOf_31 post (nI (8 * s + l)) fo fu fz aH aU aS aP aZ aC aF aL aT aK aQ (j + 1) (nI (c % 8 ^ (db_T ((db_rp c 4).drop j)))) (nI (db_T ((db_rp c 4).drop j))) (nI ((db_rp c 4).length - j + 1)) := by
  obtain ⟨hc, hr, hcell⟩ := hS
  have hb := db_pz_b c
  have hG := db_rp_G c 4
  have ez : db_pz c = (db_rp c 4).length + 1 := rfl
  have h0 : aC (8 * s + l) = nI (db_rp c 4).length := hcell 0 (by omega)
  have hat : vp_in (nI (8 * s + l)) 80 := vp_in_nI (by omega) (by decide)
  have hcl : (nI (8 * s + l)).toNatClampNeg = 8 * s + l := nI_clamp (by omega)
  intro j
  induction j with
  | zero =>
    intro _
    refine ⟨hat, br_t ?_ ?_⟩
    · rw [hcl, h0]
      exact nI_lt (by omega) (by omega)
    · have e : c % 8 ^ (db_T ((db_rp c 4).drop 0)) = c := by
        rw [List.drop_zero, hG.2]
        exact Nat.mod_eq_of_lt hc
      rw [e]
      exact K
  | succ j ih =>
    intro hj
    have ih' := ih (by omega)
    have er : nI (8 * s + l) + nI ((db_rp c 4).length - (j + 1) + 1) = nI (8 * s + l + ((db_rp c 4).length - j)) := by
      rw [nI_add]
      exact congrArg nI (by omega)
    have hx : aC (8 * s + l + ((db_rp c 4).length - j)) = nI ((db_rp c 4).getD j 0) := by
      rw [hcell _ (by omega)]
      unfold db_pk
      rw [if_neg (by omega), show db_pz c - 1 - ((db_rp c 4).length - j) = j by omega]
    have hGj := db_G_drop _ j hG.1
    have hTj := db_T_drop (db_rp c 4) j
    rw [db_drop_s _ j (by omega)] at hGj hTj ih'
    generalize (db_rp c 4).getD j 0 = x at hGj hTj ih' hx
    obtain ⟨g1, g2, _⟩ := hGj
    have eT : db_T (x :: (db_rp c 4).drop (j + 1)) = db_T ((db_rp c 4).drop (j + 1)) + x / 8 := rfl
    rw [eT] at hTj ih'
    rw [hG.2] at hTj
    refine ⟨hat, br_f ?_ ⟨?_, nm_r (e' := nI x) ?_ ⟨x / 8 + 1, ?_⟩⟩⟩
    · rw [hcl, h0]
      exact nI_nlt (by omega) (by omega)
    · rw [er]
      exact vp_in_nI (by omega) (by decide)
    · rw [er, nI_clamp (by omega), hx]
    · have h := db_co56 (post := post) (J := wX_contentOf_31 post (nI (8 * s + l)) fo fu fz aH aU aS aP aZ aC aF aL aT aK aQ (j + 1)) (x2 := nI (8 * s + l)) (r := (db_rp c 4).length - (j + 1) + 1) (fo := fo) (fu := fu) (fz := fz) (aH := aH) (aU := aU) (aS := aS) (aP := aP) (aZ := aZ) (aC := aC) (aF := aF) (aL := aL) (aT := aT) (aK := aK) (aQ := aQ) (c := c) (g := db_T ((db_rp c 4).drop (j + 1))) (x := x) rfl (by omega) hTj g1 (by
        rw [show (db_rp c 4).length - (j + 1) + 1 + 1 = (db_rp c 4).length - j + 1 by omega]
        exact ih') (x / 8) 0 (by omega)
      exact h
theorem db_contentOf {post : Int32 → Prop} {p s l c : Nat} (hp : p < 33) (hs : aS p = nI s) (hl : aP p = nI l) (hS : db_st s l aC c) (K : post (nI c)) : wpX_contentOf post (fo, fu, fz, aH, aU, aS, aP, aZ, aC, aF, aL, aT, aK, aQ) (nI p) := by
  have hv : vp_in (nI p) 33 := vp_in_nI hp (by decide)
  refine br_t (nI_pos' (by omega)) ⟨hv, hv, nm_r (e' := nI (8 * s + l)) ?_ ⟨(db_rp c 4).length + 1, ?_⟩⟩
  · rw [nI_clamp (by omega), hs, hl, show nI s * 8 = nI (s * 8) from pk_mul s 8, nI_add, Nat.mul_comm]
  · have h := db_co31 (fo := fo) (fu := fu) (fz := fz) (aH := aH) (aU := aU) (aS := aS) (aP := aP) (aZ := aZ) (aF := aF) (aL := aL) (aT := aT) (aK := aK) (aQ := aQ) hS K (db_rp c 4).length (Nat.le_refl _)
    rw [List.drop_length, Nat.sub_self] at h
    have e : c % 8 ^ db_T [] = 0 := Nat.mod_one c
    rw [e] at h
    exact h
theorem db_contentN {post : Int32 → Prop} (K : post 0) : wpX_contentOf post (fo, fu, fz, aH, aU, aS, aP, aZ, aC, aF, aL, aT, aK, aQ) (-4) := br_f (by decide) K
theorem db_hash {post : Int32 → Prop} {c : Nat} (hc : c < 4096) (K : post (nI (db_h c))) : wpX_hash post (fo, fu, fz, aH, aU, aS, aP, aZ, aC, aF, aL, aT, aK, aQ) (nI c) := by
  intro x ex
  rw [ex, db_hI hc]
  exact K
end
end
section
section
variable {fo fu fz : Int32} {aH aU aS aP aZ aC aF aL aT aK aQ : Nat → Int32}
variable {tb sg pl sz fl lv us ct : Nat → Nat}
/-! the table: walks -/
theorem db_n63 {k : Nat} (hk : k < 2 ^ 31) : (nI k + 1) &&& 63 = nI ((k + 1) % 64) := by
  rw [nI_1, pk_andN (by omega) 6 (by decide)]
theorem db_Ecl (f : Nat → Nat) {k : Nat} (hk : k < 2 ^ 31) : db_E f (nI k).toNatClampNeg = db_e (f k) := by
  rw [nI_clamp hk]
  rfl
theorem db_Ncl (f : Nat → Nat) {k : Nat} (hk : k < 2 ^ 31) : db_N f (nI k).toNatClampNeg = nI (f k) := by
  rw [nI_clamp hk]
  rfl
theorem db_pit_e {post : Int32 → Prop} {x1 x2 : Int32} {n : Nat} (K : post (-4)) : wX_placeInTable_8 post x1 fo fu fz aH aU aS aP aZ aC aF aL aT aK aQ (n + 1) x2 (nI 64) :=
  br_t (nI_le (a := 64) (b := 64) (by omega) (by decide)) K
theorem db_pit_n {post : Int32 → Prop} {x1 : Int32} {n k i : Nat} (hi : i < 64) (hk : k < 64) (h : 34 ≤ tb k) (K : post (-4)) : wX_placeInTable_8 post x1 fo fu fz aH aU aS aP aZ aC aF aL (db_E tb) aK aQ (n + 1) (nI k) (nI i) :=
  br_f (nI_ge (b := 64) hi (by decide)) ⟨vp_in_nI hk (by decide), br_t ((db_Ecl tb (by omega)).trans (db_e_n h)) K⟩
theorem db_pit_h {post : Int32 → Prop} {n k i p c : Nat} (hi : i < 64) (hk : k < 64) (hp : p < 33) (h : tb k = p) (hS : db_st (sg p) (pl p) aC c) (K : post (nI k)) :
    wX_placeInTable_8 post (nI c) fo fu fz aH aU (db_N sg) (db_N pl) aZ aC aF aL (db_E tb) aK aQ (n + 1) (nI k) (nI i) := by
  have et : db_E tb (nI k).toNatClampNeg = nI p := by
    rw [db_Ecl tb (by omega), h, db_e_p hp]
  have hv : vp_in (nI k) 64 := vp_in_nI hk (by decide)
  refine br_f (nI_ge (b := 64) hi (by decide)) ⟨hv, br_f ?_ ⟨hv, br_f ?_ ⟨hv, ?_⟩⟩⟩
  · rw [et]
    exact db_ne4 (by omega)
  · rw [et]
    exact nI_pos (by omega)
  · rw [et]
    exact db_contentOf hp rfl rfl hS (br_t rfl K)
theorem db_pit_g {post : Int32 → Prop} {n k i c : Nat} (hi : i < 64) (hk : k < 64) (hc : c < 4096) (h : tb k < 34) (hS : tb k < 33 → db_st (sg (tb k)) (pl (tb k)) aC (ct (tb k)) ∧ ct (tb k) ≠ c)
    (K : wX_placeInTable_8 post (nI c) fo fu fz aH aU (db_N sg) (db_N pl) aZ aC aF aL (db_E tb) aK aQ n (nI ((k + 1) % 64)) (nI (i + 1))) :
    wX_placeInTable_8 post (nI c) fo fu fz aH aU (db_N sg) (db_N pl) aZ aC aF aL (db_E tb) aK aQ (n + 1) (nI k) (nI i) := by
  have et : db_E tb (nI k).toNatClampNeg = db_e (tb k) := db_Ecl tb (by omega)
  have hv : vp_in (nI k) 64 := vp_in_nI hk (by decide)
  have K2 : wX_placeInTable_54 post (wX_placeInTable_8 post (nI c) fo fu fz aH aU (db_N sg) (db_N pl) aZ aC aF aL (db_E tb) aK aQ n) (nI c) (nI k) (nI i) fo fu fz aH aU (db_N sg) (db_N pl) aZ aC aF aL (db_E tb) aK aQ :=
    nm_r (db_n63 (by omega)) (nm_r (nI_1 i) K)
  refine br_f (nI_ge (b := 64) hi (by decide)) ⟨hv, br_f ?_ ⟨hv, ?_⟩⟩
  · rw [et]
    exact db_e_4 h
  · by_cases h1 : tb k < 33
    · obtain ⟨hS1, hne⟩ := hS h1
      refine br_f ?_ ⟨hv, ?_⟩
      · rw [et]
        exact db_e_nneg h1
      · rw [et, db_e_p h1]
        refine db_contentOf h1 rfl rfl hS1 (br_f (fun z => hne ?_) K2)
        exact db_inj (by have := hS1.1; omega) (by omega) z
    · refine br_t ?_ K2
      rw [et]
      exact db_e_neg (by omega)
theorem db_hstep (h i : Nat) : ((h + i) % 64 + 1) % 64 = (h + (i + 1)) % 64 := by omega
/-- the search that finds -/
theorem db_pitF {post : Int32 → Prop} {c d p : Nat} (hc : c < 4096) (hd : d < 64) (hp : p < 33) (hf : tb ((db_h c + d) % 64) = p) (hS : db_st (sg p) (pl p) aC c)
    (hg : ∀ e, e < d → tb ((db_h c + e) % 64) < 34 ∧ (tb ((db_h c + e) % 64) < 33 → db_st (sg (tb ((db_h c + e) % 64))) (pl (tb ((db_h c + e) % 64))) aC (ct (tb ((db_h c + e) % 64))) ∧ ct (tb ((db_h c + e) % 64)) ≠ c))
    (K : post (nI ((db_h c + d) % 64))) : wpX_placeInTable post (fo, fu, fz, aH, aU, db_N sg, db_N pl, aZ, aC, aF, aL, db_E tb, aK, aQ) (nI c) := by
  have L : ∀ m i, i + m = d → wX_placeInTable_8 post (nI c) fo fu fz aH aU (db_N sg) (db_N pl) aZ aC aF aL (db_E tb) aK aQ (m + 1) (nI ((db_h c + i) % 64)) (nI i) := by
    intro m
    induction m with
    | zero =>
      intro i hi
      have : i = d := by omega
      subst this
      exact db_pit_h hd (Nat.mod_lt _ (by decide)) hp hf hS K
    | succ m ih =>
      intro i hi
      have h := hg i (by omega)
      have ih' := ih (i + 1) (by omega)
      rw [← db_hstep] at ih'
      exact db_pit_g (by omega) (Nat.mod_lt _ (by decide)) hc h.1 h.2 ih'
  unfold wpX_placeInTable
  dsimp only
  refine db_hash hc ⟨d + 1, ?_⟩
  have h := L d 0 (by omega)
  rw [Nat.add_zero (db_h c), Nat.mod_eq_of_lt (db_h_lt c)] at h
  exact h
/-- the search that doesn't -/
theorem db_pitN {post : Int32 → Prop} {c : Nat} (hc : c < 4096) (hg : ∀ k, k < 64 → tb k < 33 → db_st (sg (tb k)) (pl (tb k)) aC (ct (tb k)) ∧ ct (tb k) ≠ c)
    (K : post (-4)) : wpX_placeInTable post (fo, fu, fz, aH, aU, db_N sg, db_N pl, aZ, aC, aF, aL, db_E tb, aK, aQ) (nI c) := by
  have L : ∀ m i, i + m = 64 → wX_placeInTable_8 post (nI c) fo fu fz aH aU (db_N sg) (db_N pl) aZ aC aF aL (db_E tb) aK aQ (m + 1) (nI ((db_h c + i) % 64)) (nI i) := by
    intro m
    induction m with
    | zero =>
      intro i hi
      have : i = 64 := by omega
      subst this
      exact db_pit_e K
    | succ m ih =>
      intro i hi
      have hk : (db_h c + i) % 64 < 64 := Nat.mod_lt _ (by decide)
      by_cases h34 : 34 ≤ tb ((db_h c + i) % 64)
      · exact db_pit_n (by omega) hk h34 K
      · have ih' := ih (i + 1) (by omega)
        rw [← db_hstep] at ih'
        exact db_pit_g (by omega) hk hc (by omega) (hg _ hk) ih'
  unfold wpX_placeInTable
  dsimp only
  refine db_hash hc ⟨65, ?_⟩
  have h := L 64 0 (by omega)
  rw [Nat.add_zero (db_h c), Nat.mod_eq_of_lt (db_h_lt c)] at h
  exact h
theorem db_findF {post : Int32 → Prop} {c d p : Nat} (hc : c < 4096) (hd : d < 64) (hp : p < 33) (hf : tb ((db_h c + d) % 64) = p) (hS : db_st (sg p) (pl p) aC c)
    (hg : ∀ e, e < d → tb ((db_h c + e) % 64) < 34 ∧ (tb ((db_h c + e) % 64) < 33 → db_st (sg (tb ((db_h c + e) % 64))) (pl (tb ((db_h c + e) % 64))) aC (ct (tb ((db_h c + e) % 64))) ∧ ct (tb ((db_h c + e) % 64)) ≠ c))
    (K : post (nI p)) : wpX_find post (fo, fu, fz, aH, aU, db_N sg, db_N pl, aZ, aC, aF, aL, db_E tb, aK, aQ) (nI c) := by
  have hk : (db_h c + d) % 64 < 64 := Nat.mod_lt _ (by decide)
  unfold wpX_find
  dsimp only
  refine db_pitF hc hd hp hf hS hg (br_t (nI_pos' (by omega)) ⟨vp_in_nI hk (by decide), ?_⟩)
  rw [db_Ecl tb (by omega), hf, db_e_p hp]
  exact K
theorem db_findN {post : Int32 → Prop} {c : Nat} (hc : c < 4096) (hg : ∀ k, k < 64 → tb k < 33 → db_st (sg (tb k)) (pl (tb k)) aC (ct (tb k)) ∧ ct (tb k) ≠ c)
    (K : post (-4)) : wpX_find post (fo, fu, fz, aH, aU, db_N sg, db_N pl, aZ, aC, aF, aL, db_E tb, aK, aQ) (nI c) := by
  unfold wpX_find
  dsimp only
  exact db_pitN hc hg (br_f (by decide) K)
theorem db_enter {post : SX → Prop} {c d p : Nat} (hc : c < 4096) (hd : d < 64) (hp : p < 33) (hf : 33 ≤ tb ((db_h c + d) % 64)) (hb : ∀ e, e < d → tb ((db_h c + e) % 64) < 33)
    (K : post (fo, fu, fz, aH, aU, aS, aP, aZ, aC, aF, aL, db_E (db_up tb ((db_h c + d) % 64) p), aK, aQ)) : wpX_enter post (fo, fu, fz, aH, aU, aS, aP, aZ, aC, aF, aL, db_E tb, aK, aQ) (nI c) (nI p) := by
  have L : ∀ m i, i + m = d → wX_enter_9 post (nI p) fo fu fz aH aU aS aP aZ aC aF aL (db_E tb) aK aQ (m + 1) (nI ((db_h c + i) % 64)) (nI i) := by
    intro m
    induction m with
    | zero =>
      intro i hi
      have : i = d := by omega
      subst this
      have hk : (db_h c + i) % 64 < 64 := Nat.mod_lt _ (by decide)
      have hv : vp_in (nI ((db_h c + i) % 64)) 64 := vp_in_nI hk (by decide)
      refine br_f (nI_ge (b := 64) hd (by decide)) ⟨hv, br_t ?_ ⟨hv, nm_r ?_ K⟩⟩
      · rw [db_Ecl tb (by omega)]
        exact db_e_neg hf
      · rw [nI_clamp (by omega)]
        exact db_Eu _ _ _ (db_e_p hp).symm
    | succ m ih =>
      intro i hi
      have hk : (db_h c + i) % 64 < 64 := Nat.mod_lt _ (by decide)
      have hv : vp_in (nI ((db_h c + i) % 64)) 64 := vp_in_nI hk (by decide)
      have ih' := ih (i + 1) (by omega)
      rw [← db_hstep] at ih'
      refine br_f (nI_ge (b := 64) (by omega) (by decide)) ⟨hv, br_f ?_ (nm_r (db_n63 (by omega)) (nm_r (nI_1 i) ih'))⟩
      rw [db_Ecl tb (by omega)]
      exact db_e_nneg (hb i (by omega))
  unfold wpX_enter
  dsimp only
  refine db_hash hc ⟨d + 1, ?_⟩
  have h := L d 0 (by omega)
  rw [Nat.add_zero (db_h c), Nat.mod_eq_of_lt (db_h_lt c)] at h
  exact h
/-! the log: walks -/
theorem db_append {post : SX → Prop} {p op z : Nat} (hp : p < 33) (ho : op < 10) (hz : z ≤ 5) (hf : fl op + z ≤ 8)
    (K : ∀ a : Nat → Int32, (∀ i, i < z → a (8 * op + fl op + i) = aQ i) → (∀ j, (j < 8 * op + fl op ∨ 8 * op + fl op + z ≤ j) → a j = aC j) →
      post (nI op, fu, nI z, aH, aU, db_N (db_up sg p op), db_N (db_up pl p (fl op)), db_N (db_up sz p z), a, db_N (db_up fl op (fl op + z)), db_N (db_up lv op (lv op + z)), aT, aK, aQ)) :
    wpX_append post (nI op, fu, nI z, aH, aU, db_N sg, db_N pl, db_N sz, aC, db_N fl, db_N lv, aT, aK, aQ) (nI p) := by
  have hv : vp_in (nI p) 33 := vp_in_nI hp (by decide)
  have hw : vp_in (nI op) 10 := vp_in_nI ho (by decide)
  have cp : (nI p).toNatClampNeg = p := nI_clamp (by omega)
  have co : (nI op).toNatClampNeg = op := nI_clamp (by omega)
  have ef : db_N fl op = nI (fl op) := rfl
  have el : db_N lv op = nI (lv op) := rfl
  have L : ∀ (m i : Nat) (a : Nat → Int32), i + m = z → (∀ k, k < i → a (8 * op + fl op + k) = aQ k) → (∀ j, (j < 8 * op + fl op ∨ 8 * op + fl op + z ≤ j) → a j = aC j) →
      wX_append_2 post (nI p) (nI op) fu (nI z) (m + 1) (nI i) aH aU (db_N sg) (db_N pl) (db_N sz) a (db_N fl) (db_N lv) aT aK aQ := by
    intro m
    induction m with
    | zero =>
      intro i a hi h1 h2
      have : i = z := by omega
      subst this
      refine br_t (Int32.le_refl _) ⟨hv, nm_r (e' := db_N (db_up sg p op)) ?_ ⟨hw, hv, nm_r (e' := db_N (db_up pl p (fl op))) ?_ ⟨hv, nm_r (e' := db_N (db_up sz p i)) ?_ ⟨hw, hw, nm_r (e' := db_N (db_up fl op (fl op + i))) ?_ ⟨hw, hw, nm_r (e' := db_N (db_up lv op (lv op + i))) ?_ (K a h1 h2)⟩⟩⟩⟩⟩
      · rw [cp]
        exact db_Nu _ _ _
      · rw [cp, co, ef]
        exact db_Nu _ _ _
      · rw [cp]
        exact db_Nu _ _ _
      · rw [co, ef, nI_add]
        exact db_Nu _ _ _
      · rw [co, el, nI_add]
        exact db_Nu _ _ _
    | succ m ih =>
      intro i a hi h1 h2
      have ea : nI op * 8 + db_N fl (nI op).toNatClampNeg + nI i = nI (8 * op + fl op + i) := by
        rw [co, ef, show nI op * 8 = nI (op * 8) from pk_mul op 8, nI_add, nI_add, Nat.mul_comm]
      refine br_f (nI_ge (by omega) (by omega)) ⟨hw, vp_in_nI (by omega) (by decide), ?_, nm_r (e' := upd a (8 * op + fl op + i) (aQ i)) ?_ (nm_r (nI_1 i) (ih (i + 1) _ (by omega) ?_ ?_))⟩
      · rw [ea]
        exact vp_in_nI (by omega) (by decide)
      · rw [ea, nI_clamp (by omega), nI_clamp (by omega)]
      · intro k hk
        by_cases hki : k = i
        · rw [hki, pk_us]
        · rw [pk_un (by omega)]
          exact h1 k (by omega)
      · intro j hj
        rw [pk_un (by omega)]
        exact h2 j hj
  exact ⟨z + 1, L z 0 aC (by omega) (fun k hk => absurd hk (Nat.not_lt_zero _)) (fun _ _ => rfl)⟩
theorem db_or27 {post : Int32 → SX → Prop} {n : Nat} {x2 : Int32} (K : post 1 (fo, fu, fz, aH, aU, aS, aP, aZ, aC, aF, aL, aT, aK, aQ)) : wX_openRoom_27 post fu fz aH aU aS aP aZ aC aF aL aT aK aQ (n + 1) 1 x2 fo :=
  br_c (fun _ => ⟨narrow_b1, K⟩) (fun _ => br_f (by decide) ⟨narrow_b1, K⟩)
/-- the segment in hand if it has room, or the first that has -/
theorem db_openRoom {post : Int32 → SX → Prop} {op z : Nat} (ho : op < 10) (hz : z ≤ 5) (hf : ∀ s, s < 10 → fl s ≤ 8)
    (K1 : ∀ o, o < 10 → fl o + z ≤ 8 → (o = op ∨ ∀ s, s < o → 8 < fl s + z) → post 1 (nI o, fu, nI z, aH, aU, aS, aP, aZ, aC, db_N fl, aL, aT, aK, aQ))
    (K0 : (∀ s, s < 10 → 8 < fl s + z) → post 0 (nI op, fu, nI z, aH, aU, aS, aP, aZ, aC, db_N fl, aL, aT, aK, aQ)) : wpX_openRoom post (nI op, fu, nI z, aH, aU, aS, aP, aZ, aC, db_N fl, aL, aT, aK, aQ) := by
  have L : ∀ m s, s + m = 10 → (∀ t, t < s → 8 < fl t + z) → wX_openRoom_27 post fu (nI z) aH aU aS aP aZ aC (db_N fl) aL aT aK aQ (m + 1) 0 (nI s) (nI op) := by
    intro m
    induction m with
    | zero =>
      intro s hs h
      have : s = 10 := by omega
      subst this
      exact br_t (nI_le (a := 10) (b := 10) (by omega) (by decide)) ⟨narrow_b0, K0 h⟩
    | succ m ih =>
      intro s hs h
      have hfs := hf s (by omega)
      have e : db_N fl (nI s).toNatClampNeg + nI z = nI (fl s + z) := by
        rw [db_Ncl fl (by omega), nI_add]
      refine br_f (nI_ge (b := 10) (by omega) (by decide)) (br_t rfl ⟨vp_in_nI (by omega) (by decide), ?_⟩)
      by_cases h8 : 8 < fl s + z
      · refine br_t ?_ (nm_r (nI_1 s) (ih (s + 1) (by omega) (fun t ht => ?_)))
        · rw [e]
          exact nI_lt (a := 8) h8 (by omega)
        · by_cases hts : t = s
          · rw [hts]
            exact h8
          · exact h t (by omega)
      · refine br_f ?_ (nm_r (nI_1 s) (db_or27 (K1 s (by omega) (by omega) (Or.inr h))))
        rw [e]
        exact nI_nlt (a := 8) (by omega) (by omega)
  have hfo := hf op ho
  have e : db_N fl (nI op).toNatClampNeg + nI z = nI (fl op + z) := by
    rw [db_Ncl fl (by omega), nI_add]
  refine ⟨vp_in_nI ho (by decide), ?_⟩
  by_cases h8 : 8 < fl op + z
  · refine br_t ?_ ⟨11, L 10 0 rfl (fun t ht => absurd ht (Nat.not_lt_zero _))⟩
    rw [e]
    exact nI_lt (a := 8) h8 (by omega)
  · refine br_f ?_ ⟨1, db_or27 (K1 op ho (by omega) (Or.inl rfl))⟩
    rw [e]
    exact nI_nlt (a := 8) (by omega) (by omega)
theorem db_fresh {post : Int32 → Prop} (hu : ∀ p, p < 33 → us p < 2 ^ 31) (h : ∃ p, p < 33 ∧ us p = 0) (K : ∀ p, p < 33 → us p = 0 → post (nI p)) : wpX_freshPiece post (fo, fu, fz, aH, db_N us, aS, aP, aZ, aC, aF, aL, aT, aK, aQ) := by
  have L : ∀ m f, m < 33 → f < 33 → (us f = 0 ∨ ∃ j, j ≤ m ∧ us j = 0) → wX_freshPiece_5 post fo fu fz aH (db_N us) aS aP aZ aC aF aL aT aK aQ (m + 2) (nI f) (nI m) := by
    intro m
    induction m with
    | zero =>
      intro f hm hf hI
      have e : db_N us (nI 0).toNatClampNeg = nI (us 0) := db_Ncl us (by omega)
      refine br_f (nI_pos (by omega)) ⟨vp_in_nI hm (by decide), ?_⟩
      by_cases h0 : us 0 = 0
      · refine br_t ?_ (nm_r (e' := -1) (by decide) (br_t (by decide) (K 0 (by omega) h0)))
        rw [e, h0]
        rfl
      · refine br_f ?_ (nm_r (e' := -1) (by decide) (br_t (by decide) (K f hf ?_)))
        · rw [e]
          exact nI_ne0 (by omega) (hu 0 (by omega))
        · rcases hI with h1 | ⟨j, hj, h1⟩
          · exact h1
          · have : j = 0 := by omega
            rw [this] at h1
            exact absurd h1 h0
    | succ m ih =>
      intro f hm hf hI
      have e : db_N us (nI (m + 1)).toNatClampNeg = nI (us (m + 1)) := db_Ncl us (by omega)
      refine br_f (nI_pos (by omega)) ⟨vp_in_nI hm (by decide), ?_⟩
      by_cases h0 : us (m + 1) = 0
      · refine br_t ?_ (nm_r (pk_m1 m) (ih (m + 1) (by omega) hm (Or.inl h0)))
        rw [e, h0]
        rfl
      · refine br_f ?_ (nm_r (pk_m1 m) (ih f (by omega) hf ?_))
        · rw [e]
          exact nI_ne0 (by omega) (hu _ hm)
        · rcases hI with h1 | ⟨j, hj, h1⟩
          · exact Or.inl h1
          · refine Or.inr ⟨j, ?_, h1⟩
            by_cases hjm : j = m + 1
            · rw [hjm] at h1
              exact absurd h1 h0
            · omega
  obtain ⟨p, hp, hu0⟩ := h
  exact ⟨34, L 32 0 (by omega) (by omega) (Or.inr ⟨p, by omega, hu0⟩)⟩
end
end
section
section
/-! the log, pure: A is the set of the pieces that are in it -/
def db_lg (A : Nat → Bool) (ct : Nat → Nat) (op : Nat) (fl lv sg pl sz : Nat → Nat) (aC : Nat → Int32) : Prop :=
  op < 10 ∧ (∀ s, s < 10 → fl s ≤ 8 ∧ lv s ≤ fl s) ∧
  (∀ p, p < 33 → A p = true → ct p < 4096 ∧ sg p < 10 ∧ pl p + db_pz (ct p) ≤ fl (sg p) ∧ sz p = db_pz (ct p) ∧ ∀ i, i < db_pz (ct p) → aC (8 * sg p + pl p + i) = nI (db_pk (ct p) i)) ∧
  (∀ s, s < 10 → lv s = db_sm 33 (fun p => if A p = true ∧ sg p = s then db_pz (ct p) else 0))
variable {A A' : Nat → Bool} {ct ct' fl lv sg pl sz : Nat → Nat} {op : Nat} {aC a : Nat → Int32}
theorem db_lg_st (h : db_lg A ct op fl lv sg pl sz aC) {p : Nat} (hp : p < 33) (hA : A p = true) : db_st (sg p) (pl p) aC (ct p) := by
  obtain ⟨h1, h2, h3, h4, h5⟩ := h.2.2.1 p hp hA
  have := (h.2.1 _ h2).1
  exact ⟨h1, by omega, h5⟩
theorem db_lg_o (h : db_lg A ct op fl lv sg pl sz aC) {o : Nat} (ho : o < 10) : db_lg A ct o fl lv sg pl sz aC := ⟨ho, h.2⟩
theorem db_lg_c (h : db_lg A ct op fl lv sg pl sz aC) (hA : ∀ p, p < 33 → A' p = A p) (hc : ∀ p, p < 33 → A p = true → ct' p = ct p) : db_lg A' ct' op fl lv sg pl sz aC := by
  refine ⟨h.1, h.2.1, fun p hp ha => ?_, fun s hs => ?_⟩
  · rw [hA p hp] at ha
    rw [hc p hp ha]
    exact h.2.2.1 p hp ha
  · rw [h.2.2.2 s hs]
    refine db_sm_c 33 (fun p hp => ?_)
    rw [hA p hp]
    by_cases ha : A p = true
    · rw [hc p hp ha]
    · rw [if_neg (fun z => ha z.1), if_neg (fun z => ha z.1)]
theorem db_lg_app (h : db_lg A ct op fl lv sg pl sz aC) {o p : Nat} (ho : o < 10) (hp : p < 33) (hA : A p = false) (hA1 : A' p = true) (hA2 : ∀ q, q < 33 → q ≠ p → A' q = A q) (hc : ct p < 4096)
    (hf : fl o + db_pz (ct p) ≤ 8) (ha : ∀ i, i < db_pz (ct p) → a (8 * o + fl o + i) = nI (db_pk (ct p) i))
    (hk : ∀ j, (j < 8 * o + fl o ∨ 8 * o + fl o + db_pz (ct p) ≤ j) → a j = aC j) :
    db_lg A' ct o (db_up fl o (fl o + db_pz (ct p))) (db_up lv o (lv o + db_pz (ct p))) (db_up sg p o) (db_up pl p (fl o)) (db_up sz p (db_pz (ct p))) a := by
  obtain ⟨_, h2, h3, h4⟩ := h
  refine ⟨ho, fun s hs => ?_, fun q hq hA' => ?_, fun s hs => ?_⟩
  · by_cases e : s = o
    · subst e
      rw [db_us, db_us]
      have := h2 s hs
      omega
    · rw [db_un e, db_un e]
      exact h2 s hs
  · by_cases e : q = p
    · subst e
      rw [db_us, db_us, db_us, db_us]
      exact ⟨hc, ho, Nat.le_refl _, rfl, ha⟩
    · rw [hA2 q hq e] at hA'
      rw [db_un e, db_un e, db_un e]
      obtain ⟨g1, g2, g3, g4, g5⟩ := h3 q hq hA'
      have f8 := (h2 _ g2).1
      refine ⟨g1, g2, ?_, g4, fun i hi => ?_⟩
      · by_cases eo : sg q = o
        · rw [eo, db_us]
          rw [eo] at g3
          omega
        · rw [db_un eo]
          exact g3
      · rw [hk _ ?_]
        · exact g5 i hi
        · by_cases eo : sg q = o
          · rw [eo] at g3 ⊢
            omega
          · omega
  · have hs' := db_sm_u (f := fun q => if A' q = true ∧ db_up sg p o q = s then db_pz (ct q) else 0) (g := fun q => if A q = true ∧ sg q = s then db_pz (ct q) else 0) (k := p) 33 hp (fun q hq e => by
      show (if A' q = true ∧ db_up sg p o q = s then db_pz (ct q) else 0) = (if A q = true ∧ sg q = s then db_pz (ct q) else 0)
      rw [hA2 q hq e, db_un e])
    simp only [db_us, hA, hA1, true_and] at hs'
    have h4s := h4 s hs
    have e0 : (if false = true ∧ sg p = s then db_pz (ct p) else 0) = 0 := if_neg (fun z => Bool.noConfusion z.1)
    rw [e0, ← h4s] at hs'
    by_cases e : s = o
    · subst e
      rw [db_us]
      rw [if_pos rfl] at hs'
      omega
    · rw [db_un e]
      rw [if_neg (fun z => e z.symm)] at hs'
      omega
/-- a piece is taken out -/
theorem db_lg_rel (h : db_lg A ct op fl lv sg pl sz aC) {p : Nat} (hp : p < 33) (hA : A p = true) (hA1 : A' p = false) (hA2 : ∀ q, q < 33 → q ≠ p → A' q = A q) :
    db_lg A' ct op fl (db_up lv (sg p) (lv (sg p) - db_pz (ct p))) sg pl sz aC ∧ db_pz (ct p) ≤ lv (sg p) := by
  obtain ⟨h1, h2, h3, h4⟩ := h
  have key : ∀ s, s < 10 → db_sm 33 (fun q => if A' q = true ∧ sg q = s then db_pz (ct q) else 0) + (if sg p = s then db_pz (ct p) else 0) = lv s := by
    intro s hs
    have hs' := db_sm_u (f := fun q => if A' q = true ∧ sg q = s then db_pz (ct q) else 0) (g := fun q => if A q = true ∧ sg q = s then db_pz (ct q) else 0) (k := p) 33 hp (fun q hq e => by
      show (if A' q = true ∧ sg q = s then db_pz (ct q) else 0) = (if A q = true ∧ sg q = s then db_pz (ct q) else 0)
      rw [hA2 q hq e])
    simp only [hA, hA1, true_and] at hs'
    have e0 : (if false = true ∧ sg p = s then db_pz (ct p) else 0) = 0 := if_neg (fun z => Bool.noConfusion z.1)
    rw [e0, ← h4 s hs] at hs'
    omega
  have hsp := (h3 p hp hA).2.1
  have kp := key _ hsp
  rw [if_pos rfl] at kp
  refine ⟨⟨h1, fun s hs => ?_, fun q hq hq' => ?_, fun s hs => ?_⟩, by omega⟩
  · have := h2 s hs
    by_cases e : s = sg p
    · rw [e, db_us]
      rw [e] at this
      omega
    · rw [db_un e]
      exact this
  · have e : q ≠ p := by
      intro e
      rw [e, hA1] at hq'
      exact Bool.noConfusion hq'
    rw [hA2 q hq e] at hq'
    exact h3 q hq hq'
  · have ks := key s hs
    by_cases e : s = sg p
    · rw [e, db_us]
      rw [e, if_pos rfl] at ks
      omega
    · rw [db_un e]
      rw [if_neg (fun z => e z.symm)] at ks
      omega
/-- a segment is emptied -/
theorem db_lg_clr (h : db_lg A ct op fl lv sg pl sz aC) {w : Nat} (hA : ∀ q, q < 33 → A' q = true → A q = true ∧ sg q ≠ w) (hB : ∀ q, q < 33 → A q = true → sg q ≠ w → A' q = true) :
    db_lg A' ct op (db_up fl w 0) (db_up lv w 0) sg pl sz aC := by
  obtain ⟨h1, h2, h3, h4⟩ := h
  refine ⟨h1, fun s hs => ?_, fun q hq hq' => ?_, fun s hs => ?_⟩
  · by_cases e : s = w
    · rw [e, db_us, db_us]
      omega
    · rw [db_un e, db_un e]
      exact h2 s hs
  · obtain ⟨a1, a2⟩ := hA q hq hq'
    rw [db_un a2]
    exact h3 q hq a1
  · by_cases e : s = w
    · rw [e, db_us]
      exact (db_sm_0 33 (fun q hq => if_neg (fun z => (hA q hq z.1).2 z.2))).symm
    · rw [db_un e, h4 s hs]
      refine db_sm_c 33 (fun q hq => ?_)
      by_cases es : sg q = s
      · by_cases a1 : A q = true
        · rw [if_pos ⟨a1, es⟩, if_pos ⟨hB q hq a1 (fun z => e (es.symm.trans z)), es⟩]
        · rw [if_neg (fun z => a1 z.1), if_neg (fun z => a1 (hA q hq z.1).1)]
      · rw [if_neg (fun z => es z.2), if_neg (fun z => es z.2)]
/-- first fit: any two segments in use have 9 cells or more -/
def db_ff (fl : Nat → Nat) : Prop := ∀ s t, s < t → t < 10 → fl t = 0 ∨ 9 ≤ fl s + fl t
theorem db_room {z : Nat} (hff : db_ff fl) (hs : db_sm 10 fl + z ≤ 48) (hz : 2 ≤ z) (hz5 : z ≤ 5) : ∃ s, s < 10 ∧ fl s + z ≤ 8 := by
  by_cases h : ∃ s, s < 10 ∧ fl s + z ≤ 8
  · exact h
  · exfalso
    have g : ∀ s, s < 10 → 9 ≤ fl s + z := fun s hs' => by
      by_cases h' : fl s + z ≤ 8
      · exact absurd ⟨s, hs', h'⟩ h
      · omega
    have e : db_sm 10 fl = 0 + fl 0 + fl 1 + fl 2 + fl 3 + fl 4 + fl 5 + fl 6 + fl 7 + fl 8 + fl 9 := rfl
    have p0 := hff 0 1 (by omega) (by omega)
    have p1 := hff 2 3 (by omega) (by omega)
    have p2 := hff 4 5 (by omega) (by omega)
    have p3 := hff 6 7 (by omega) (by omega)
    have p4 := hff 8 9 (by omega) (by omega)
    have g0 := g 0 (by omega)
    have g1 := g 1 (by omega)
    have g2 := g 2 (by omega)
    have g3 := g 3 (by omega)
    have g4 := g 4 (by omega)
    have g5 := g 5 (by omega)
    have g6 := g 6 (by omega)
    have g7 := g 7 (by omega)
    have g8 := g 8 (by omega)
    have g9 := g 9 (by omega)
    rw [e] at hs
    clear h g e hff
    omega
theorem db_ff_u {o z : Nat} (hff : db_ff fl) (h : ∀ s, s < o → 8 < fl s + z) : db_ff (db_up fl o (fl o + z)) := by
  intro s t hst ht
  by_cases et : t = o
  · subst et
    rw [db_us, db_un (by omega)]
    have := h s hst
    omega
  · rw [db_un et]
    have h1 := hff s t hst ht
    by_cases es : s = o
    · subst es
      rw [db_us]
      omega
    · rw [db_un es]
      exact h1
theorem db_sm_fl {o z : Nat} (ho : o < 10) : db_sm 10 (db_up fl o (fl o + z)) = db_sm 10 fl + z := by
  have h := db_sm_u (f := db_up fl o (fl o + z)) (g := fl) (k := o) 10 ho (fun i _ e => db_un e)
  rw [db_us] at h
  omega
end
end
section
section
variable {fo fu fz : Int32} {aH aU aS aP aZ aC aF aL aT aK aQ : Nat → Int32}
variable {us ct fl lv sg pl sz : Nat → Nat} {op : Nat}
def db_lv (us : Nat → Nat) : Nat → Bool := fun p => decide (0 < us p)
theorem db_lv_t {us : Nat → Nat} {p : Nat} : db_lv us p = true ↔ 0 < us p := decide_eq_true_iff
theorem db_lv_f {us : Nat → Nat} {p : Nat} : db_lv us p = false ↔ us p = 0 := by
  unfold db_lv
  rw [decide_eq_false_iff_not]
  omega
theorem db_le0 {a : Nat} (h : a < 2 ^ 31) : nI a ≤ 0 ↔ a = 0 := by
  rw [← nI_0, nI_leI h (by omega)]
  omega
theorem db_clean4 {post : Int32 → SX → Prop} (hf : ∀ s, s < 10 → fl s < 2 ^ 31 ∧ lv s < 2 ^ 31)
    (K : ∀ w, w < 10 → (fl w = lv w → post 0 (fo, fu, fz, aH, aU, aS, aP, aZ, aC, db_N fl, db_N lv, aT, aK, aQ)) ∧ (fl w ≠ lv w → ∃ n : Nat, wX_clean_66 post (nI w) fo fu fz n 0 aH aU aS aP aZ aC (db_N fl) (db_N lv) aT aK aQ)) : wpX_clean post (fo, fu, fz, aH, aU, aS, aP, aZ, aC, db_N fl, db_N lv, aT, aK, aQ) := by
  have L : ∀ m s w, s + m = 10 → w < 10 → wX_clean_4 post fo fu fz aH aU aS aP aZ aC (db_N fl) (db_N lv) aT aK aQ (m + 1) (nI w) (nI s) := by
    intro m
    induction m with
    | zero =>
      intro s w hs hw
      have : s = 10 := by omega
      subst this
      have hv : vp_in (nI w) 10 := vp_in_nI hw (by decide)
      have hfw := hf w hw
      refine br_t (nI_le (a := 10) (b := 10) (by omega) (by decide)) ⟨hv, hv, ?_⟩
      rw [db_Ncl fl (by omega), db_Ncl lv (by omega), nI_eq hfw.1 hfw.2]
      exact K w hw
    | succ m ih =>
      intro s w hs hw
      have hv : vp_in (nI w) 10 := vp_in_nI hw (by decide)
      have hu : vp_in (nI s) 10 := vp_in_nI (by omega) (by decide)
      exact br_f (nI_ge (b := 10) (by omega) (by decide)) ⟨hu, hu, hv, hv, br_c (fun _ => nm_r (nI_1 s) (ih (s + 1) w (by omega) hw)) (fun _ => nm_r (nI_1 s) (ih (s + 1) s (by omega) (by omega)))⟩
  exact ⟨11, L 10 0 0 rfl (by omega)⟩
theorem db_clean66 {post : Int32 → SX → Prop} {w : Nat} (hw : w < 10) (hu : ∀ p, p < 33 → us p < 2 ^ 31) (hg : ∀ p, p < 33 → 0 < us p → sg p < 10 ∧ db_st (sg p) (pl p) aC (ct p))
    (K : ∀ k : Nat → Int32, (∀ q, q < 33 → k q = if 0 < us q ∧ sg q = w then nI (ct q) else 0) → ∃ n : Nat, wX_clean_134 post n 0 fo fu fz aH (db_N us) (db_N sg) (db_N pl) aZ aC (db_N (db_up fl w 0)) (db_N (db_up lv w 0)) aT k aQ) :
    ∃ n : Nat, wX_clean_66 post (nI w) fo fu fz n 0 aH (db_N us) (db_N sg) (db_N pl) aZ aC (db_N fl) (db_N lv) aT aK aQ := by
  have L : ∀ (m p : Nat) (k : Nat → Int32), p + m = 33 → (∀ q, q < p → k q = if 0 < us q ∧ sg q = w then nI (ct q) else 0) → wX_clean_66 post (nI w) fo fu fz (m + 1) (nI p) aH (db_N us) (db_N sg) (db_N pl) aZ aC (db_N fl) (db_N lv) aT k aQ := by
    intro m
    induction m with
    | zero =>
      intro p k hp hk
      have : p = 33 := by omega
      subst this
      have hv : vp_in (nI w) 10 := vp_in_nI hw (by decide)
      refine br_t (nI_le (a := 33) (b := 33) (by omega) (by decide)) ⟨hv, nm_r (e' := db_N (db_up fl w 0)) ?_ ⟨hv, nm_r (e' := db_N (db_up lv w 0)) ?_ (K k hk)⟩⟩
      · rw [nI_clamp (by omega)]
        exact db_Nu fl w 0
      · rw [nI_clamp (by omega)]
        exact db_Nu lv w 0
    | succ m ih =>
      intro p k hp hk
      have hp' : p < 33 := by omega
      have hv : vp_in (nI p) 33 := vp_in_nI hp' (by decide)
      have eu : db_N us (nI p).toNatClampNeg = nI (us p) := db_Ncl us (by omega)
      have es : db_N sg (nI p).toNatClampNeg = nI (sg p) := db_Ncl sg (by omega)
      have cp : (nI p).toNatClampNeg = p := nI_clamp (by omega)
      have st : ∀ x : Int32, x = (if 0 < us p ∧ sg p = w then nI (ct p) else 0) → ∀ q, q < p + 1 → upd k p x q = if 0 < us q ∧ sg q = w then nI (ct q) else 0 := by
        intro x hx q hq
        by_cases e : q = p
        · rw [e, pk_us, hx]
        · rw [pk_un e]
          exact hk q (by omega)
      refine br_f (nI_ge (b := 33) hp' (by decide)) ⟨hv, ?_⟩
      by_cases h0 : us p = 0
      · refine br_t (by rw [eu, h0]; exact Int32.le_refl _) ⟨hv, nm_r (e' := upd k p 0) (by rw [cp]) (nm_r (nI_1 p) (ih (p + 1) _ (by omega) (st 0 (if_neg (by omega)).symm)))⟩
      · refine br_f (by rw [eu, db_le0 (hu p hp')]; exact h0) ⟨hv, ?_⟩
        have hg' := hg p hp' (by omega)
        by_cases h1 : sg p = w
        · refine br_t (by rw [es, h1]) ?_
          refine db_contentOf hp' rfl rfl hg'.2 ⟨hv, nm_r (e' := upd k p (nI (ct p))) (by rw [cp]) (nm_r (nI_1 p) (ih (p + 1) _ (by omega) (st _ (if_pos ⟨by omega, h1⟩).symm)))⟩
        · refine br_f (by rw [es, nI_eq (by omega) (by omega)]; exact h1) ⟨hv, nm_r (e' := upd k p 0) (by rw [cp]) (nm_r (nI_1 p) (ih (p + 1) _ (by omega) (st 0 (if_neg (fun z => h1 z.2)).symm)))⟩
  exact ⟨34, L 33 0 aK rfl (fun q hq => absurd hq (Nat.not_lt_zero _))⟩
/-- the pieces that are put back go on having room in the segment that was emptied -/
theorem db_clean134 {post : Int32 → SX → Prop} {kp live : Nat → Bool} {w : Nat} (hw : w < 10) (hK : ∀ q, q < 33 → aK q = if kp q = true then nI (ct q) else 0)
    (hct : ∀ q, q < 33 → kp q = true → 0 < ct q ∧ ct q < 4096 ∧ live q = true)
    (Kf : ∀ (op : Nat) (fz : Int32) (fl lv sg pl sz : Nat → Nat) (aC aQ : Nat → Int32), db_lg live ct op fl lv sg pl sz aC → post 1 (nI op, fu, fz, aH, aU, db_N sg, db_N pl, db_N sz, aC, db_N fl, db_N lv, aT, aK, aQ)) :
    ∀ (m i op : Nat) (fz : Int32) (fl lv sg pl sz : Nat → Nat) (aC aQ : Nat → Int32), i + m = 33 → db_lg (fun q => live q && (!kp q || decide (q < i))) ct op fl lv sg pl sz aC →
      fl w + db_sm 33 (fun q => if kp q = true ∧ i ≤ q then db_pz (ct q) else 0) ≤ 8 →
      wX_clean_134 post (m + 1) (nI i) (nI op) fu fz aH aU (db_N sg) (db_N pl) (db_N sz) aC (db_N fl) (db_N lv) aT aK aQ := by
  intro m
  induction m with
  | zero =>
    intro i op fz fl lv sg pl sz aC aQ hi hlg hr
    have : i = 33 := by omega
    subst this
    refine br_t (nI_le (a := 33) (b := 33) (by omega) (by decide)) (Kf op fz fl lv sg pl sz aC aQ (db_lg_c hlg (fun p hp => ?_) (fun _ _ _ => rfl)))
    show live p = (live p && (!kp p || decide (p < 33)))
    rw [decide_eq_true hp, Bool.or_true, Bool.and_true]
  | succ m ih =>
    intro i op fz fl lv sg pl sz aC aQ hi hlg hr
    have hi' : i < 33 := by omega
    have hv : vp_in (nI i) 33 := vp_in_nI hi' (by decide)
    have ci : (nI i).toNatClampNeg = i := nI_clamp (by omega)
    have hki := hK i hi'
    have hA2 : ∀ q, q < 33 → q ≠ i → (live q && (!kp q || decide (q < i + 1))) = (live q && (!kp q || decide (q < i))) := by
      intro q _ e
      have : decide (q < i + 1) = decide (q < i) := by
        rw [decide_eq_decide]
        omega
      rw [this]
    have hsum := db_sm_u (f := fun q => if kp q = true ∧ i ≤ q then db_pz (ct q) else 0) (g := fun q => if kp q = true ∧ i + 1 ≤ q then db_pz (ct q) else 0) (k := i) 33 hi' (fun q _ e => by
      show (if kp q = true ∧ i ≤ q then db_pz (ct q) else 0) = (if kp q = true ∧ i + 1 ≤ q then db_pz (ct q) else 0)
      have : i ≤ q ↔ i + 1 ≤ q := by omega
      exact db_ifc (and_congr Iff.rfl this))
    try simp only at hsum
    rw [if_neg (fun z => absurd z.2 (by omega))] at hsum
    refine br_f (nI_ge (b := 33) hi' (by decide)) ⟨hv, ?_⟩
    rw [ci]
    by_cases hk : kp i = true
    · rw [if_pos hk] at hki
      rw [if_pos ⟨hk, Nat.le_refl i⟩] at hsum
      obtain ⟨c1, c2, c3⟩ := hct i hi' hk
      have hz := db_pz_b (ct i)
      rw [hki]
      refine br_f (nI_ne0 c1 (by omega)) ⟨hv, ?_⟩
      refine db_pack c2 (fun q hq => ?_)
      refine db_openRoom (op := op) (z := db_pz (ct i)) (fl := fl) hlg.1 hz.2 (fun s hs => (hlg.2.1 s hs).1) (fun o ho hf _ => ?_) (fun hno => ?_)
      · refine db_append (op := o) (z := db_pz (ct i)) (fl := fl) (sg := sg) (pl := pl) (sz := sz) (lv := lv) hi' ho hz.2 hf (fun a ha hk' => ?_)
        refine nm_r (nI_1 i) (ih (i + 1) o _ _ _ _ _ _ a q (by omega) (db_lg_app hlg ho hi' ?_ ?_ hA2 c2 hf (fun j hj => by rw [ha j hj, hq j hj]) hk') ?_)
        · show (live i && (!kp i || decide (i < i))) = false
          rw [hk, decide_eq_false (Nat.lt_irrefl i)]
          exact Bool.and_false _
        · show (live i && (!kp i || decide (i < i + 1))) = true
          rw [c3, decide_eq_true (Nat.lt_succ_self i), Bool.or_true]
          rfl
        · by_cases e : w = o
          · subst e
            rw [db_us]
            omega
          · rw [db_un e]
            omega
      · exfalso
        have := hno w hw
        omega
    · rw [if_neg hk] at hki
      rw [if_neg (fun z => hk z.1)] at hsum
      refine br_t hki (nm_r (nI_1 i) (ih (i + 1) op fz fl lv sg pl sz aC aQ (by omega) (db_lg_c hlg (fun q hq => ?_) (fun _ _ _ => rfl)) (by omega)))
      by_cases e : q = i
      · have hk' : kp i = false := by
          cases h : kp i
          · rfl
          · exact absurd h hk
        show (live q && (!kp q || decide (q < i + 1))) = (live q && (!kp q || decide (q < i)))
        rw [e, hk']
        rfl
      · exact hA2 q hq e
theorem db_clean {post : Int32 → SX → Prop} (hu : ∀ p, p < 33 → us p < 2 ^ 31) (hct : ∀ p, p < 33 → 0 < us p → 0 < ct p ∧ ct p < 4096) (hlg : db_lg (db_lv us) ct op fl lv sg pl sz aC)
    (K : ∀ (r : Int32) (op : Nat) (fz : Int32) (fl lv sg pl sz : Nat → Nat) (aC aK aQ : Nat → Int32), r = 0 ∨ r = 1 → db_lg (db_lv us) ct op fl lv sg pl sz aC → post r (nI op, fu, fz, aH, db_N us, db_N sg, db_N pl, db_N sz, aC, db_N fl, db_N lv, aT, aK, aQ)) :
    wpX_clean post (nI op, fu, fz, aH, db_N us, db_N sg, db_N pl, db_N sz, aC, db_N fl, db_N lv, aT, aK, aQ) := by
  have hlg' := hlg
  obtain ⟨h1, h2, h3, h4⟩ := hlg
  refine db_clean4 (fun s hs => ?_) (fun w hw => ⟨fun _ => K 0 op fz fl lv sg pl sz aC aK aQ (Or.inl rfl) hlg', fun _ => ?_⟩)
  · have := h2 s hs
    omega
  · refine db_clean66 (ct := ct) hw hu (fun p hp h0 => ⟨(h3 p hp (db_lv_t.mpr h0)).2.1, db_lg_st hlg' hp (db_lv_t.mpr h0)⟩) (fun k hk => ⟨34, ?_⟩)
    refine db_clean134 (kp := fun q => db_lv us q && decide (sg q = w)) (live := db_lv us) (ct := ct) hw ?_ ?_ (fun op' fz' fl' lv' sg' pl' sz' aC' aQ' h => K 1 op' fz' fl' lv' sg' pl' sz' aC' k aQ' (Or.inr rfl) h) 33 0 op fz _ _ _ _ _ _ _ rfl (db_lg_clr hlg' (w := w) ?_ ?_) ?_
    · intro q hq
      rw [hk q hq]
      by_cases e : 0 < us q ∧ sg q = w
      · rw [if_pos e, if_pos]
        show (db_lv us q && decide (sg q = w)) = true
        rw [db_lv_t.mpr e.1, decide_eq_true e.2]
        rfl
      · rw [if_neg e, if_neg]
        intro z
        have z' : (db_lv us q && decide (sg q = w)) = true := z
        rw [Bool.and_eq_true, db_lv_t, decide_eq_true_iff] at z'
        exact e z'
    · intro q hq z
      have z' : (db_lv us q && decide (sg q = w)) = true := z
      rw [Bool.and_eq_true, db_lv_t, decide_eq_true_iff] at z'
      have := hct q hq z'.1
      exact ⟨this.1, this.2, db_lv_t.mpr z'.1⟩
    · intro q hq z
      have z' : (db_lv us q && (!(db_lv us q && decide (sg q = w)) || decide (q < 0))) = true := z
      by_cases e : sg q = w
      · rw [decide_eq_true e, Bool.and_true, decide_eq_false (Nat.not_lt_zero q), Bool.or_false] at z'
        cases h : db_lv us q
        · rw [h] at z'
          exact Bool.noConfusion z'
        · rw [h] at z'
          exact Bool.noConfusion z'
      · rw [Bool.and_eq_true] at z'
        exact ⟨z'.1, e⟩
    · intro q hq z e
      show (db_lv us q && (!(db_lv us q && decide (sg q = w)) || decide (q < 0))) = true
      rw [z, decide_eq_false e]
      rfl
    · rw [db_us, Nat.zero_add]
      have hw2 := h2 w hw
      have hw4 := h4 w hw
      have e : db_sm 33 (fun q => if (db_lv us q && decide (sg q = w)) = true ∧ 0 ≤ q then db_pz (ct q) else 0) = db_sm 33 (fun q => if db_lv us q = true ∧ sg q = w then db_pz (ct q) else 0) := by
        refine db_sm_c 33 (fun q _ => ?_)
        have : ((db_lv us q && decide (sg q = w)) = true ∧ 0 ≤ q) ↔ (db_lv us q = true ∧ sg q = w) := by
          rw [Bool.and_eq_true, decide_eq_true_iff]
          exact ⟨fun z => z.1, fun z => ⟨z, Nat.zero_le q⟩⟩
        exact db_ifc this
      have hle : db_sm 33 (fun q => if (db_lv us q && decide (sg q = w)) = true ∧ 0 ≤ q then db_pz (ct q) else 0) ≤ 8 := by
        rw [e, ← hw4]
        omega
      exact hle
end
end
section
section
variable {fo fu fz : Int32} {aH aU aS aP aZ aC aF aL aT aK aQ : Nat → Int32}
variable {us ct fl lv sg pl sz : Nat → Nat} {op : Nat}
abbrev db_J : Type := Int32 → Int32 → Int32 → Int32 → (Nat → Int32) → (Nat → Int32) → (Nat → Int32) → (Nat → Int32) → (Nat → Int32) → (Nat → Int32) → (Nat → Int32) → (Nat → Int32) → (Nat → Int32) → (Nat → Int32) → (Nat → Int32) → Prop
/-- while the log is written anew: the sizes above k are in, and those of size k below i -/
def db_As (live : Nat → Bool) (ct : Nat → Nat) (k i : Nat) : Nat → Bool := fun q => live q && (decide (k < db_pz (ct q)) || (decide (db_pz (ct q) = k) && decide (q < i)))
theorem db_As_t {live : Nat → Bool} {ct : Nat → Nat} {k i q : Nat} : db_As live ct k i q = true ↔ live q = true ∧ (k < db_pz (ct q) ∨ (db_pz (ct q) = k ∧ q < i)) := by
  unfold db_As
  rw [Bool.and_eq_true, Bool.or_eq_true, Bool.and_eq_true, decide_eq_true_iff, decide_eq_true_iff, decide_eq_true_iff]
theorem db_bext {a b : Bool} (h : a = true ↔ b = true) : a = b := by
  cases a <;> cases b
  · rfl
  · exact (h.mpr rfl)
  · exact (h.mp rfl).symm
  · rfl
def db_rw (live A : Nat → Bool) (ct : Nat → Nat) (op : Nat) (fl lv sg pl sz : Nat → Nat) (aC : Nat → Int32) : Prop :=
  db_lg A ct op fl lv sg pl sz aC ∧ db_ff fl ∧ db_sm 10 fl = db_sm 33 (fun q => if A q = true then db_pz (ct q) else 0) ∧ ∀ q, q < 33 → live q = true → sz q = db_pz (ct q)
theorem db_rw_c {live A A' : Nat → Bool} (h : db_rw live A ct op fl lv sg pl sz aC) (hA : ∀ p, p < 33 → A' p = A p) : db_rw live A' ct op fl lv sg pl sz aC := by
  refine ⟨db_lg_c h.1 hA (fun _ _ _ => rfl), h.2.1, ?_, h.2.2.2⟩
  rw [h.2.2.1]
  exact db_sm_c 33 (fun q hq => by rw [hA q hq])
theorem db_rw75 {post : SX → Prop} {J : db_J} {live : Nat → Bool} {k : Nat} (hk1 : 1 ≤ k) (hk4 : k ≤ 4) (hK : ∀ q, q < 33 → aK q = if live q = true then nI (ct q) else 0)
    (hct : ∀ q, q < 33 → live q = true → 0 < ct q ∧ ct q < 4096) (htot : db_sm 33 (fun q => if live q = true then db_pz (ct q) else 0) ≤ 48)
    (KJ : ∀ (op : Nat) (fz : Int32) (fl lv sg pl sz : Nat → Nat) (aC aQ : Nat → Int32), db_rw live (db_As live ct k 0) ct op fl lv sg pl sz aC → J (nI k) (nI op) fu fz aH aU (db_N sg) (db_N pl) (db_N sz) aC (db_N fl) (db_N lv) aT aK aQ) :
    ∀ (m i op : Nat) (fz : Int32) (fl lv sg pl sz : Nat → Nat) (aC aQ : Nat → Int32), i + m = 33 → db_rw live (db_As live ct (k + 1) i) ct op fl lv sg pl sz aC →
      wX_rewrite_75 post J (nI (k + 1)) (m + 1) (nI i) (nI op) fu fz aH aU (db_N sg) (db_N pl) (db_N sz) aC (db_N fl) (db_N lv) aT aK aQ := by
  intro m
  induction m with
  | zero =>
    intro i op fz fl lv sg pl sz aC aQ hi hrw
    have : i = 33 := by omega
    subst this
    refine br_t (nI_le (a := 33) (b := 33) (by omega) (by decide)) (nm_r (pk_m1 k) (KJ op fz fl lv sg pl sz aC aQ (db_rw_c hrw (fun p hp => db_bext ?_))))
    rw [db_As_t, db_As_t]
    constructor
    · rintro ⟨h1, h2⟩
      exact ⟨h1, by omega⟩
    · rintro ⟨h1, h2⟩
      exact ⟨h1, by omega⟩
  | succ m ih =>
    intro i op fz fl lv sg pl sz aC aQ hi hrw
    have hi' : i < 33 := by omega
    have hv : vp_in (nI i) 33 := vp_in_nI hi' (by decide)
    have ci : (nI i).toNatClampNeg = i := nI_clamp (by omega)
    have hki := hK i hi'
    have es : db_N sz i = nI (sz i) := rfl
    have hA2 : ∀ q, q < 33 → q ≠ i → db_As live ct (k + 1) (i + 1) q = db_As live ct (k + 1) i q := by
      intro q _ e
      refine db_bext ?_
      rw [db_As_t, db_As_t]
      constructor
      · rintro ⟨h1, h2⟩
        exact ⟨h1, by omega⟩
      · rintro ⟨h1, h2⟩
        exact ⟨h1, by omega⟩
    refine br_f (nI_ge (b := 33) hi' (by decide)) ⟨hv, ?_⟩
    rw [ci]
    by_cases hl : live i = true
    · rw [if_pos hl] at hki
      obtain ⟨c1, c2⟩ := hct i hi' hl
      have hz := db_pz_b (ct i)
      have hsz := hrw.2.2.2 i hi' hl
      rw [hki]
      refine br_f (nI_ne0 c1 (by omega)) ⟨hv, ?_⟩
      rw [es, hsz]
      by_cases hpk : db_pz (ct i) = k + 1
      · obtain ⟨hlg, hff, hsum, hall⟩ := hrw
        have hA0 : db_As live ct (k + 1) i i = false := by
          cases h : db_As live ct (k + 1) i i
          · rfl
          · rw [db_As_t] at h
            omega
        have hA1 : db_As live ct (k + 1) (i + 1) i = true := db_As_t.mpr ⟨hl, Or.inr ⟨hpk, by omega⟩⟩
        have hsu := db_sm_u (f := fun q => if db_As live ct (k + 1) (i + 1) q = true then db_pz (ct q) else 0) (g := fun q => if db_As live ct (k + 1) i q = true then db_pz (ct q) else 0) (k := i) 33 hi' (fun q hq e => by
          show (if db_As live ct (k + 1) (i + 1) q = true then db_pz (ct q) else 0) = (if db_As live ct (k + 1) i q = true then db_pz (ct q) else 0)
          rw [hA2 q hq e])
        try simp only at hsu
        rw [hA0, if_neg (fun z => Bool.noConfusion z), if_pos hA1] at hsu
        have hle := db_sm_le (f := fun q => if db_As live ct (k + 1) (i + 1) q = true then db_pz (ct q) else 0) (g := fun q => if live q = true then db_pz (ct q) else 0) 33 (fun q _ => by
          show (if db_As live ct (k + 1) (i + 1) q = true then db_pz (ct q) else 0) ≤ (if live q = true then db_pz (ct q) else 0)
          by_cases z : db_As live ct (k + 1) (i + 1) q = true
          · rw [if_pos z, if_pos (db_As_t.mp z).1]
            exact Nat.le_refl _
          · rw [if_neg z]
            exact Nat.zero_le _)
        obtain ⟨s0, hs0, hs1⟩ := db_room (z := db_pz (ct i)) hff (by omega) hz.1 hz.2
        refine br_t (congrArg nI hpk) ⟨hv, ?_⟩
        refine db_pack c2 (fun q hq => ?_)
        refine db_openRoom (op := 0) (z := db_pz (ct i)) (fl := fl) (by omega) hz.2 (fun s hs => (hlg.2.1 s hs).1) (fun o ho hf hfirst => ?_) (fun hno => ?_)
        · refine db_append (op := o) (z := db_pz (ct i)) (fl := fl) (sg := sg) (pl := pl) (sz := sz) (lv := lv) hi' ho hz.2 hf (fun a ha hk' => ?_)
          have hfs : ∀ s, s < o → 8 < fl s + db_pz (ct i) := by
            rcases hfirst with h | h
            · intro s hs
              omega
            · exact h
          refine nm_r (nI_1 i) (ih (i + 1) o _ _ _ _ _ _ a q (by omega) ⟨db_lg_app hlg ho hi' hA0 hA1 hA2 c2 hf (fun j hj => by rw [ha j hj, hq j hj]) hk', db_ff_u hff hfs, ?_, fun q' hq' hl' => ?_⟩)
          · rw [db_sm_fl ho]
            omega
          · by_cases e : q' = i
            · rw [e, db_us]
            · rw [db_un e]
              exact hall q' hq' hl'
        · exfalso
          have := hno s0 hs0
          omega
      · refine br_f (fun z => hpk (db_inj (by omega) (by omega) z)) (nm_r (nI_1 i) (ih (i + 1) op fz fl lv sg pl sz aC aQ (by omega) (db_rw_c hrw (fun q hq => ?_))))
        by_cases e : q = i
        · refine db_bext ?_
          rw [db_As_t, db_As_t, e]
          constructor
          · rintro ⟨h1, h2⟩
            exact ⟨h1, by omega⟩
          · rintro ⟨h1, h2⟩
            exact ⟨h1, by omega⟩
        · exact hA2 q hq e
    · rw [if_neg hl] at hki
      refine br_t hki (nm_r (nI_1 i) (ih (i + 1) op fz fl lv sg pl sz aC aQ (by omega) (db_rw_c hrw (fun q hq => ?_))))
      by_cases e : q = i
      · refine db_bext ?_
        rw [db_As_t, db_As_t, e]
        exact ⟨fun z => absurd z.1 hl, fun z => absurd z.1 hl⟩
      · exact hA2 q hq e
theorem db_rw68 {post : SX → Prop} {live : Nat → Bool} (hK : ∀ q, q < 33 → aK q = if live q = true then nI (ct q) else 0)
    (hct : ∀ q, q < 33 → live q = true → 0 < ct q ∧ ct q < 4096) (htot : db_sm 33 (fun q => if live q = true then db_pz (ct q) else 0) ≤ 48)
    (Kf : ∀ (op : Nat) (fz : Int32) (fl lv sg pl sz : Nat → Nat) (aC aQ : Nat → Int32), db_rw live (db_As live ct 1 0) ct op fl lv sg pl sz aC → post (nI op, fu, fz, aH, aU, db_N sg, db_N pl, db_N sz, aC, db_N fl, db_N lv, aT, aK, aQ)) :
    ∀ (j op : Nat) (fz : Int32) (fl lv sg pl sz : Nat → Nat) (aC aQ : Nat → Int32), j ≤ 4 → db_rw live (db_As live ct (j + 1) 0) ct op fl lv sg pl sz aC →
      wX_rewrite_68 post (j + 1) (nI (j + 1)) (nI op) fu fz aH aU (db_N sg) (db_N pl) (db_N sz) aC (db_N fl) (db_N lv) aT aK aQ := by
  intro j
  induction j with
  | zero =>
    intro op fz fl lv sg pl sz aC aQ _ h
    exact br_t (nI_le (a := 1) (b := 1) (by omega) (by decide)) (Kf op fz fl lv sg pl sz aC aQ h)
  | succ j ih =>
    intro op fz fl lv sg pl sz aC aQ hj h
    refine br_f (nI_ge (a := 1) (b := j + 1 + 1) (by omega) (by omega)) ⟨34, ?_⟩
    exact db_rw75 (J := wX_rewrite_68 post (j + 1)) (k := j + 1) (by omega) (by omega) hK hct htot (fun op fz fl lv sg pl sz aC aQ h' => ih op fz fl lv sg pl sz aC aQ (by omega) h') 33 0 op fz fl lv sg pl sz aC aQ rfl h
theorem db_rewrite {post : SX → Prop} (hu : ∀ p, p < 33 → us p < 2 ^ 31) (hct : ∀ p, p < 33 → 0 < us p → 0 < ct p ∧ ct p < 4096) (hlg : db_lg (db_lv us) ct op fl lv sg pl sz aC)
    (htot : db_sm 33 (fun q => if db_lv us q = true then db_pz (ct q) else 0) ≤ 48)
    (K : ∀ (op : Nat) (fz : Int32) (fl lv sg pl sz : Nat → Nat) (aC aK aQ : Nat → Int32), db_lg (db_lv us) ct op fl lv sg pl sz aC → db_ff fl → db_sm 10 fl = db_sm 33 (fun q => if db_lv us q = true then db_pz (ct q) else 0) → post (nI op, fu, fz, aH, db_N us, db_N sg, db_N pl, db_N sz, aC, db_N fl, db_N lv, aT, aK, aQ)) :
    wpX_rewrite post (nI op, fu, fz, aH, db_N us, db_N sg, db_N pl, db_N sz, aC, db_N fl, db_N lv, aT, aK, aQ) := by
  have hct' : ∀ q, q < 33 → db_lv us q = true → 0 < ct q ∧ ct q < 4096 := fun q hq h => hct q hq (db_lv_t.mp h)
  have L2 : ∀ (k : Nat → Int32), (∀ q, q < 33 → k q = if db_lv us q = true then nI (ct q) else 0) → ∀ (m s : Nat) (f l : Nat → Nat), s + m = 10 → (∀ t, t < s → f t = 0 ∧ l t = 0) →
      wX_rewrite_40 post (nI op) fu fz (m + 1) (nI s) aH (db_N us) (db_N sg) (db_N pl) (db_N sz) aC (db_N f) (db_N l) aT k aQ := by
    intro k hk m
    induction m with
    | zero =>
      intro s f l hs h0
      have : s = 10 := by omega
      subst this
      refine br_t (nI_le (a := 10) (b := 10) (by omega) (by decide)) ⟨5, ?_⟩
      refine db_rw68 (live := db_lv us) (ct := ct) hk hct' htot (fun op' fz' fl' lv' sg' pl' sz' aC' aQ' h => ?_) 4 op fz f l sg pl sz aC aQ (by omega) ?_
      · have eA : ∀ p, p < 33 → db_lv us p = db_As (db_lv us) ct 1 0 p := by
          intro p _
          refine db_bext ?_
          rw [db_As_t]
          have := db_pz_b (ct p)
          exact ⟨fun z => ⟨z, Or.inl (by omega)⟩, fun z => z.1⟩
        have h' := db_rw_c h eA
        exact K op' fz' fl' lv' sg' pl' sz' aC' k aQ' h'.1 h'.2.1 h'.2.2.1
      · have eA : ∀ p, db_As (db_lv us) ct (4 + 1) 0 p = true → False := by
          intro p z
          rw [db_As_t] at z
          have := db_pz_b (ct p)
          omega
        refine ⟨⟨hlg.1, fun s hs => ?_, fun p _ z => (eA p z).elim, fun s hs => ?_⟩, fun s t _ ht => Or.inl (h0 t ht).1, ?_, fun q hq h => (hlg.2.2.1 q hq h).2.2.2.1⟩
        · have := h0 s hs
          omega
        · rw [(h0 s hs).2]
          exact (db_sm_0 33 (fun q _ => if_neg (fun z => eA q z.1))).symm
        · rw [db_sm_0 10 (fun s hs => (h0 s hs).1)]
          exact (db_sm_0 33 (fun q _ => if_neg (fun z => eA q z))).symm
    | succ m ih =>
      intro s f l hs h0
      have hv : vp_in (nI s) 10 := vp_in_nI (by omega) (by decide)
      refine br_f (nI_ge (b := 10) (by omega) (by decide)) ⟨hv, nm_r (e' := db_N (db_up f s 0)) ?_ ⟨hv, nm_r (e' := db_N (db_up l s 0)) ?_ (nm_r (nI_1 s) (ih (s + 1) _ _ (by omega) (fun t ht => ?_)))⟩⟩
      · rw [nI_clamp (by omega)]
        exact db_Nu f s 0
      · rw [nI_clamp (by omega)]
        exact db_Nu l s 0
      · by_cases e : t = s
        · rw [e, db_us, db_us]
          exact ⟨rfl, rfl⟩
        · rw [db_un e, db_un e]
          exact h0 t (by omega)
  have L1 : ∀ (m p : Nat) (k : Nat → Int32), p + m = 33 → (∀ q, q < p → k q = if db_lv us q = true then nI (ct q) else 0) → wX_rewrite_2 post (nI op) fu fz (m + 1) (nI p) aH (db_N us) (db_N sg) (db_N pl) (db_N sz) aC (db_N fl) (db_N lv) aT k aQ := by
    intro m
    induction m with
    | zero =>
      intro p k hp hk
      have : p = 33 := by omega
      subst this
      exact br_t (nI_le (a := 33) (b := 33) (by omega) (by decide)) ⟨11, L2 k hk 10 0 fl lv rfl (fun t ht => absurd ht (Nat.not_lt_zero _))⟩
    | succ m ih =>
      intro p k hp hk
      have hp' : p < 33 := by omega
      have hv : vp_in (nI p) 33 := vp_in_nI hp' (by decide)
      have eu : db_N us (nI p).toNatClampNeg = nI (us p) := db_Ncl us (by omega)
      have cp : (nI p).toNatClampNeg = p := nI_clamp (by omega)
      have st : ∀ x : Int32, x = (if db_lv us p = true then nI (ct p) else 0) → ∀ q, q < p + 1 → upd k p x q = if db_lv us q = true then nI (ct q) else 0 := by
        intro x hx q hq
        by_cases e : q = p
        · rw [e, pk_us, hx]
        · rw [pk_un e]
          exact hk q (by omega)
      refine br_f (nI_ge (b := 33) hp' (by decide)) ⟨hv, ?_⟩
      by_cases h0 : us p = 0
      · refine br_t (by rw [eu, h0]; exact Int32.le_refl _) ⟨hv, nm_r (e' := upd k p 0) (by rw [cp]) (nm_r (nI_1 p) (ih (p + 1) _ (by omega) (st 0 (if_neg (fun z => absurd (db_lv_t.mp z) (by omega))).symm)))⟩
      · have hl : db_lv us p = true := db_lv_t.mpr (by omega)
        refine br_f (by rw [eu, db_le0 (hu p hp')]; exact h0) ?_
        exact db_contentOf hp' rfl rfl (db_lg_st hlg hp' hl) ⟨hv, nm_r (e' := upd k p (nI (ct p))) (by rw [cp]) (nm_r (nI_1 p) (ih (p + 1) _ (by omega) (st _ (if_pos hl).symm)))⟩
  exact ⟨34, L1 33 0 aK rfl (fun q hq => absurd hq (Nat.not_lt_zero _))⟩
end
end
section
section
variable {fo fu fz : Int32} {aH aU aS aP aZ aC aF aL aT aK aQ : Nat → Int32}
variable {us ct fl lv sg pl sz : Nat → Nat} {op : Nat}
theorem db_pv51 {post : SX → Prop} {c : Nat} {x2 : Int32} (hu : ∀ p, p < 33 → us p < 2 ^ 31) (hct : ∀ p, p < 33 → 0 < us p → 0 < ct p ∧ ct p < 4096) (hc : c < 4096)
    (htot : db_sm 33 (fun q => if db_lv us q = true then db_pz (ct q) else 0) + db_pz c ≤ 48)
    (K : ∀ (op : Nat) (fl lv sg pl sz : Nat → Nat) (aC aK aQ : Nat → Int32), db_lg (db_lv us) ct op fl lv sg pl sz aC → fl op + db_pz c ≤ 8 → (∀ i, i < db_pz c → aQ i = nI (db_pk c i)) → post (nI op, fu, nI (db_pz c), aH, db_N us, db_N sg, db_N pl, db_N sz, aC, db_N fl, db_N lv, aT, aK, aQ))
    (hlg : db_lg (db_lv us) ct op fl lv sg pl sz aC) (hx : x2 = 0 ∨ (x2 = 1 ∧ fl op + db_pz c ≤ 8)) (hq : ∀ i, i < db_pz c → aQ i = nI (db_pk c i)) :
    wX_provide_51 post (nI c) x2 (nI op) fu (nI (db_pz c)) aH (db_N us) (db_N sg) (db_N pl) (db_N sz) aC (db_N fl) (db_N lv) aT aK aQ := by
  have hz := db_pz_b c
  rcases hx with rfl | ⟨rfl, hf⟩
  · refine br_t rfl (db_rewrite hu hct hlg (by omega) (fun op' fz' fl' lv' sg' pl' sz' aC' aK' aQ' h hff hsum => ?_))
    refine db_pack hc (fun q hq => ?_)
    obtain ⟨s0, hs0, hs1⟩ := db_room (z := db_pz c) hff (by omega) hz.1 hz.2
    refine db_openRoom (op := op') (z := db_pz c) (fl := fl') h.1 hz.2 (fun s hs => (h.2.1 s hs).1) (fun o ho hf _ => K o fl' lv' sg' pl' sz' aC' aK' q (db_lg_o h ho) hf hq) (fun hno => ?_)
    exfalso
    have := hno s0 hs0
    omega
  · exact br_f (by decide) (K op fl lv sg pl sz aC aK aQ hlg hf hq)
theorem db_provide {post : SX → Prop} {c : Nat} (hu : ∀ p, p < 33 → us p < 2 ^ 31) (hct : ∀ p, p < 33 → 0 < us p → 0 < ct p ∧ ct p < 4096) (hc : c < 4096)
    (htot : db_sm 33 (fun q => if db_lv us q = true then db_pz (ct q) else 0) + db_pz c ≤ 48)
    (K : ∀ (op : Nat) (fl lv sg pl sz : Nat → Nat) (aC aK aQ : Nat → Int32), db_lg (db_lv us) ct op fl lv sg pl sz aC → fl op + db_pz c ≤ 8 → (∀ i, i < db_pz c → aQ i = nI (db_pk c i)) → post (nI op, fu, nI (db_pz c), aH, db_N us, db_N sg, db_N pl, db_N sz, aC, db_N fl, db_N lv, aT, aK, aQ))
    (hlg : db_lg (db_lv us) ct op fl lv sg pl sz aC) :
    wpX_provide post (nI op, fu, fz, aH, db_N us, db_N sg, db_N pl, db_N sz, aC, db_N fl, db_N lv, aT, aK, aQ) (nI c) := by
  have hz := db_pz_b c
  have L : ∀ (m i : Nat) (x2 x3 : Int32) (op : Nat) (fl lv sg pl sz : Nat → Nat) (aC aK aQ : Nat → Int32), i + m = 10 → db_lg (db_lv us) ct op fl lv sg pl sz aC → (x2 = 0 ∨ (x2 = 1 ∧ fl op + db_pz c ≤ 8)) → (∀ i, i < db_pz c → aQ i = nI (db_pk c i)) →
      wX_provide_15 post (nI c) (m + 1) x2 x3 (nI i) (nI op) fu (nI (db_pz c)) aH (db_N us) (db_N sg) (db_N pl) (db_N sz) aC (db_N fl) (db_N lv) aT aK aQ := by
    intro m
    induction m with
    | zero =>
      intro i x2 x3 op fl lv sg pl sz aC aK aQ hi hlg hx hq
      have : i = 10 := by omega
      subst this
      exact br_t (nI_le (a := 10) (b := 10) (by omega) (by decide)) (db_pv51 hu hct hc htot K hlg hx hq)
    | succ m ih =>
      intro i x2 x3 op fl lv sg pl sz aC aK aQ hi hlg hx hq
      have P := db_pv51 (x2 := x2) (aK := aK) hu hct hc htot K hlg hx hq
      refine br_f (nI_ge (b := 10) (by omega) (by decide)) (br_c (fun _ => br_c (fun _ => P) (fun _ => ?_)) (fun _ => P))
      refine db_clean hu hct hlg (fun r op' fz' fl' lv' sg' pl' sz' aC' aK' aQ' _ h => ?_)
      refine db_pack hc (fun q hq => ?_)
      refine db_openRoom (op := op') (z := db_pz c) (fl := fl') h.1 hz.2 (fun s hs => (h.2.1 s hs).1) (fun o ho hf _ => ?_) (fun hno => ?_)
      · exact nm_r (nI_1 i) (ih (i + 1) 1 r o fl' lv' sg' pl' sz' aC' aK' q (by omega) (db_lg_o h ho) (Or.inr ⟨rfl, hf⟩) hq)
      · exact nm_r (nI_1 i) (ih (i + 1) 0 r op' fl' lv' sg' pl' sz' aC' aK' q (by omega) h (Or.inl rfl) hq)
  unfold wpX_provide
  dsimp only
  refine db_pack hc (fun q hq => ?_)
  refine db_openRoom (op := op) (z := db_pz c) (fl := fl) hlg.1 hz.2 (fun s hs => (hlg.2.1 s hs).1) (fun o ho hf _ => ?_) (fun hno => ?_)
  · exact ⟨11, L 10 0 1 1 o fl lv sg pl sz aC aK q rfl (db_lg_o hlg ho) (Or.inr ⟨rfl, hf⟩) hq⟩
  · exact ⟨11, L 10 0 0 1 op fl lv sg pl sz aC aK q rfl hlg (Or.inl rfl) hq⟩
end
end
section
section
/-! the invariant, pure -/
def db_hs (con hd us ct : Nat → Nat) : Prop :=
  (∀ n, n < 32 → (con n = 0 ∧ hd n = 34) ∨ (0 < con n ∧ hd n < 33 ∧ ct (hd n) = con n)) ∧
  (∀ p, p < 33 → us p = db_ck 32 hd p) ∧
  (∀ p, p < 33 → 0 < us p → 0 < ct p ∧ ct p < 4096) ∧
  (∀ p q, p < 33 → q < 33 → 0 < us p → 0 < us q → ct p = ct q → p = q)
def db_tb (tb us ct : Nat → Nat) : Prop :=
  (∀ i, i < 64 → tb i < 33 → 0 < us (tb i)) ∧
  (∀ i j, i < 64 → j < 64 → tb i < 33 → tb i = tb j → i = j) ∧
  (∀ p, p < 33 → 0 < us p → ∃ d, d < 64 ∧ tb ((db_h (ct p) + d) % 64) = p ∧ ∀ e, e < d → tb ((db_h (ct p) + e) % 64) < 34)
variable {con hd us ct ct' tb : Nat → Nat}
theorem db_hs_live (h : db_hs con hd us ct) {n : Nat} (hn : n < 32) (hp : hd n < 33) : 0 < us (hd n) := by
  rw [h.2.1 _ hp]
  exact db_ck_pos.mpr ⟨n, hn, rfl⟩
theorem db_hs_con (h : db_hs con hd us ct) {n : Nat} (hn : n < 32) : con n < 4096 := by
  rcases h.1 n hn with ⟨h0, _⟩ | ⟨_, h1, h2⟩
  · omega
  · rw [← h2]
    exact (h.2.2.1 _ h1 (db_hs_live h hn h1)).2
theorem db_hs_us (h : db_hs con hd us ct) {p : Nat} (hp : p < 33) : us p ≤ 32 := by
  rw [h.2.1 p hp]
  exact db_ck_le _ _ _
/-- the uses of a live piece are the blocks that hold its content -/
theorem db_hs_ck (h : db_hs con hd us ct) {p : Nat} (hp : p < 33) (hu : 0 < us p) : us p = db_ck 32 con (ct p) := by
  rw [h.2.1 p hp]
  refine db_sm_c 32 (fun n hn => ?_)
  show (if hd n = p then 1 else 0) = (if con n = ct p then 1 else 0)
  have hc := h.2.2.1 p hp hu
  rcases h.1 n hn with ⟨h0, h1⟩ | ⟨h0, h1, h2⟩
  · rw [if_neg (by omega), if_neg (by omega)]
  · by_cases e : hd n = p
    · rw [if_pos e, if_pos (by rw [← h2, e])]
    · rw [if_neg e, if_neg (fun z => e (h.2.2.2 _ _ h1 hp (db_hs_live h hn h1) hu (h2.trans z)))]
theorem db_hs_ex (h : db_hs con hd us ct) {c : Nat} (hc : 0 < c) (hk : 0 < db_ck 32 con c) : ∃ p, p < 33 ∧ 0 < us p ∧ ct p = c := by
  obtain ⟨n, hn, e⟩ := db_ck_pos.mp hk
  rcases h.1 n hn with ⟨h0, _⟩ | ⟨_, h1, h2⟩
  · omega
  · exact ⟨hd n, h1, db_hs_live h hn h1, h2.trans e⟩
theorem db_hs_tr (h : db_hs con hd us ct) (w : Nat → Nat) : db_sm 33 (fun p => if 0 < us p then w (ct p) else 0) = db_sm 4096 (fun c => if 0 < c ∧ 0 < db_ck 32 con c then w c else 0) := by
  refine db_tr (fun p hp hu => ?_) (fun c _ hc hk => db_hs_ex h hc hk) h.2.2.2
  have h1 := h.2.2.1 p hp hu
  rw [db_hs_ck h hp hu] at hu
  exact ⟨h1.1, h1.2, hu⟩
/-- what is used, by contents -/
def db_U (con : Nat → Nat) : Nat := db_sm 4096 (fun c => if 0 < db_ck 32 con c then db_rm c else 0)
theorem db_hs_U (h : db_hs con hd us ct) : db_sm 33 (fun p => if 0 < us p then db_pz (ct p) else 0) = db_U con := by
  rw [db_hs_tr h db_pz]
  refine db_sm_c 4096 (fun c _ => ?_)
  show (if 0 < c ∧ 0 < db_ck 32 con c then db_pz c else 0) = (if 0 < db_ck 32 con c then db_rm c else 0)
  by_cases h0 : 0 < c
  · rw [db_rm_p h0]
    by_cases h1 : 0 < db_ck 32 con c
    · rw [if_pos ⟨h0, h1⟩, if_pos h1]
    · rw [if_neg (fun z => h1 z.2), if_neg h1]
  · have : c = 0 := by omega
    rw [this, db_rm_0, if_neg (fun z => absurd z.1 (Nat.lt_irrefl 0))]
    split <;> rfl
theorem db_hs_rel0 (h : db_hs con hd us ct) {n : Nat} (hn : n < 32) (hp : 33 ≤ hd n) : db_hs (db_up con n 0) (db_up hd n 34) us ct := by
  refine ⟨fun m hm => ?_, fun p hp' => ?_, h.2.2.1, h.2.2.2⟩
  · by_cases e : m = n
    · rw [e, db_us, db_us]
      exact Or.inl ⟨rfl, rfl⟩
    · rw [db_un e, db_un e]
      exact h.1 m hm
  · have h1 := db_ck_u (k := 32) (n := n) (x := 34) (c := p) (a := hd) hn
    rw [if_neg (by omega), if_neg (by omega)] at h1
    rw [h.2.1 p hp']
    omega
theorem db_hs_rel (h : db_hs con hd us ct) {n : Nat} (hn : n < 32) (hp : hd n < 33) : db_hs (db_up con n 0) (db_up hd n 34) (db_up us (hd n) (us (hd n) - 1)) ct := by
  have hl := db_hs_live h hn hp
  have hpos : ∀ p, 0 < db_up us (hd n) (us (hd n) - 1) p → 0 < us p := by
    intro p z
    by_cases e : p = hd n
    · rw [e]
      exact hl
    · rw [db_un e] at z
      exact z
  refine ⟨fun m hm => ?_, fun p hp' => ?_, fun p hp' z => h.2.2.1 p hp' (hpos p z), fun p q hp' hq z1 z2 e => h.2.2.2 p q hp' hq (hpos p z1) (hpos q z2) e⟩
  · by_cases e : m = n
    · rw [e, db_us, db_us]
      exact Or.inl ⟨rfl, rfl⟩
    · rw [db_un e, db_un e]
      exact h.1 m hm
  · have h1 := db_ck_u (k := 32) (n := n) (x := 34) (c := p) (a := hd) hn
    rw [if_neg (show ¬ 34 = p by omega)] at h1
    have h2 := h.2.1 p hp'
    by_cases e : p = hd n
    · rw [if_pos e.symm] at h1
      rw [e, db_us]
      rw [e] at h1 h2
      omega
    · rw [if_neg (fun z => e z.symm)] at h1
      rw [db_un e]
      omega
theorem db_hs_hold (h : db_hs con hd us ct) {n p c : Nat} (hn : n < 32) (h0 : con n = 0) (hp : p < 33) (hc : 0 < c ∧ c < 4096) (e1 : ct' p = c) (e2 : 0 < us p → ct p = c)
    (e3 : ∀ q, q < 33 → q ≠ p → ct' q = ct q) (e4 : ∀ q, q < 33 → q ≠ p → 0 < us q → ct q ≠ c) : db_hs (db_up con n c) (db_up hd n p) (db_up us p (us p + 1)) ct' := by
  have hn34 : hd n = 34 := by
    rcases h.1 n hn with ⟨_, z⟩ | ⟨z, _⟩
    · exact z
    · omega
  have hpos : ∀ q, q ≠ p → 0 < db_up us p (us p + 1) q → 0 < us q := by
    intro q e z
    rw [db_un e] at z
    exact z
  refine ⟨fun m hm => ?_, fun q hq => ?_, fun q hq z => ?_, fun q r hq hr z1 z2 e => ?_⟩
  · by_cases e : m = n
    · rw [e, db_us, db_us]
      exact Or.inr ⟨hc.1, hp, e1⟩
    · rw [db_un e, db_un e]
      rcases h.1 m hm with z | ⟨z1, z2, z3⟩
      · exact Or.inl z
      · refine Or.inr ⟨z1, z2, ?_⟩
        by_cases ep : hd m = p
        · rw [ep, e1]
          rw [← z3, ep]
          have := db_hs_live h hm z2
          rw [ep] at this
          exact (e2 this).symm
        · rw [e3 _ z2 ep]
          exact z3
  · have h1 := db_ck_u (k := 32) (n := n) (x := p) (c := q) (a := hd) hn
    rw [if_neg (show ¬ hd n = q by omega)] at h1
    have h2 := h.2.1 q hq
    by_cases e : q = p
    · rw [if_pos e.symm] at h1
      rw [e, db_us]
      rw [e] at h1 h2
      omega
    · rw [if_neg (fun z => e z.symm)] at h1
      rw [db_un e]
      omega
  · by_cases e : q = p
    · rw [e, e1]
      exact hc
    · rw [e3 q hq e]
      exact h.2.2.1 q hq (hpos q e z)
  · by_cases eq : q = p
    · by_cases er : r = p
      · rw [eq, er]
      · rw [eq, e1, e3 r hr er] at e
        exact absurd e.symm (e4 r hr er (hpos r er z2))
    · by_cases er : r = p
      · rw [er, e1, e3 q hq eq] at e
        exact absurd e (e4 q hq eq (hpos q eq z1))
      · rw [e3 q hq eq, e3 r hr er] at e
        exact h.2.2.2 q r hq hr (hpos q eq z1) (hpos r er z2) e
/-! the table -/
theorem db_tb_c (h : db_tb tb us ct) {us' : Nat → Nat} (hu : ∀ p, p < 33 → (0 < us' p ↔ 0 < us p)) : db_tb tb us' ct :=
  ⟨fun i hi ht => (hu _ ht).mpr (h.1 i hi ht), h.2.1, fun p hp z => h.2.2 p hp ((hu p hp).mp z)⟩
theorem db_tb_rel (h : db_tb tb us ct) {us' : Nat → Nat} {k p : Nat} (hk : k < 64) (hp : p < 33) (ht : tb k = p) (h0 : us' p = 0) (hu : ∀ q, q < 33 → q ≠ p → us' q = us q) : db_tb (db_up tb k 33) us' ct := by
  have nn : ∀ i, db_up tb k 33 i < 33 → i ≠ k ∧ db_up tb k 33 i = tb i := by
    intro i z
    have e : i ≠ k := by
      intro e
      rw [e, db_us] at z
      omega
    exact ⟨e, db_un e⟩
  refine ⟨fun i hi z => ?_, fun i j hi hj z e => ?_, fun q hq z => ?_⟩
  · obtain ⟨e1, e2⟩ := nn i z
    rw [e2] at z ⊢
    rw [hu _ z ?_]
    · exact h.1 i hi z
    · intro e
      exact e1 (h.2.1 i k hi hk z (e.trans ht.symm))
  · obtain ⟨e1, e2⟩ := nn i z
    have z' := z
    rw [e] at z'
    obtain ⟨e3, e4⟩ := nn j z'
    rw [e2] at z e
    rw [e4] at e
    exact h.2.1 i j hi hj z e
  · have hqp : q ≠ p := by
      intro e
      rw [e, h0] at z
      exact absurd z (Nat.lt_irrefl 0)
    rw [hu q hq hqp] at z
    obtain ⟨d, hd, h1, h2⟩ := h.2.2 q hq z
    refine ⟨d, hd, ?_, fun e he => ?_⟩
    · rw [db_un ?_]
      · exact h1
      · intro e
        rw [e, ht] at h1
        exact hqp h1.symm
    · have := h2 e he
      by_cases ek : (db_h (ct q) + e) % 64 = k
      · rw [ek, db_us]
        omega
      · rw [db_un ek]
        exact this
theorem db_tb_new (h : db_tb tb us ct) {us' : Nat → Nat} {d p : Nat} (hd : d < 64) (hp : p < 33) (hf : 33 ≤ tb ((db_h (ct' p) + d) % 64)) (hb : ∀ e, e < d → tb ((db_h (ct' p) + e) % 64) < 33)
    (h0 : us p = 0) (h1 : 0 < us' p) (hu : ∀ q, q < 33 → q ≠ p → us' q = us q) (hc : ∀ q, q < 33 → q ≠ p → ct' q = ct q) : db_tb (db_up tb ((db_h (ct' p) + d) % 64) p) us' ct' := by
  have hk : (db_h (ct' p) + d) % 64 < 64 := Nat.mod_lt _ (by decide)
  have np : ∀ i, i < 64 → tb i < 33 → tb i ≠ p := by
    intro i hi z e
    have := h.1 i hi z
    rw [e, h0] at this
    exact absurd this (Nat.lt_irrefl 0)
  refine ⟨fun i hi z => ?_, fun i j hi hj z e => ?_, fun q hq z => ?_⟩
  · by_cases e : i = (db_h (ct' p) + d) % 64
    · rw [e, db_us]
      exact h1
    · rw [db_un e] at z ⊢
      rw [hu _ z (np i hi z)]
      exact h.1 i hi z
  · by_cases e1 : i = (db_h (ct' p) + d) % 64
    · by_cases e2 : j = (db_h (ct' p) + d) % 64
      · rw [e1, e2]
      · rw [db_un e2] at e
        rw [e1, db_us] at e
        exact absurd e.symm (np j hj (by omega))
    · by_cases e2 : j = (db_h (ct' p) + d) % 64
      · rw [e2, db_us] at e
        rw [db_un e1] at e
        exact absurd e (np i hi (by omega))
      · rw [db_un e1] at z
        rw [db_un e1, db_un e2] at e
        exact h.2.1 i j hi hj z e
  · by_cases e : q = p
    · rw [e]
      refine ⟨d, hd, db_us, fun e' he' => ?_⟩
      have := hb e' he'
      by_cases ek : (db_h (ct' p) + e') % 64 = (db_h (ct' p) + d) % 64
      · rw [ek, db_us]
        omega
      · rw [db_un ek]
        omega
    · rw [hu q hq e] at z
      obtain ⟨d', hd', g1, g2⟩ := h.2.2 q hq z
      rw [hc q hq e]
      refine ⟨d', hd', ?_, fun e' he' => ?_⟩
      · by_cases ek : (db_h (ct q) + d') % 64 = (db_h (ct' p) + d) % 64
        · rw [ek] at g1
          omega
        · rw [db_un ek]
          exact g1
      · have := g2 e' he'
        by_cases ek : (db_h (ct q) + e') % 64 = (db_h (ct' p) + d) % 64
        · rw [ek, db_us]
          omega
        · rw [db_un ek]
          exact this
/-- more places than pieces -/
theorem db_pig {f : Nat → Nat} {m n : Nat} (h1 : ∀ i, i < m → f i < n) (h2 : ∀ i j, i < m → j < m → f i = f j → i = j) : m ≤ n := by
  have c1 : ∀ k : Nat, db_sm k (fun _ => 1) = k := by
    intro k
    induction k with
    | zero => rfl
    | succ k ih => rw [db_sm_s, ih]
  have e1 : db_sm m (fun _ => 1) = db_sm m (fun i => db_sm n (fun v => if f i = v then 1 else 0)) := by
    refine db_sm_c m (fun i hi => ?_)
    rw [db_sm_1 (f := fun v => if f i = v then 1 else 0) (h1 i hi) (fun v _ hne => if_neg (fun z => hne z.symm))]
    exact (if_pos rfl).symm
  have e2 : db_sm n (fun v => db_sm m (fun i => if f i = v then 1 else 0)) ≤ db_sm n (fun _ => 1) := by
    refine db_sm_le n (fun v _ => ?_)
    show db_sm m (fun i => if f i = v then 1 else 0) ≤ 1
    by_cases h : ∃ i, i < m ∧ f i = v
    · obtain ⟨i, hi, e⟩ := h
      rw [db_sm_1 (f := fun i => if f i = v then 1 else 0) hi (fun j hj hne => if_neg (fun z => hne (h2 j i hj hi (z.trans e.symm))))]
      split <;> omega
    · rw [db_sm_0 m (fun i hi => if_neg (fun z => h ⟨i, hi, z⟩))]
      omega
  rw [db_sm_comm, c1] at e1
  rw [c1] at e2
  omega
theorem db_tb_free (h : db_tb tb us ct) (b : Nat) (hb : b < 64) : ∃ d, d < 64 ∧ 33 ≤ tb ((b + d) % 64) ∧ ∀ e, e < d → tb ((b + e) % 64) < 33 := by
  have hx : ∃ i, i < 64 ∧ 33 ≤ tb i := by
    by_cases hx : ∃ i, i < 64 ∧ 33 ≤ tb i
    · exact hx
    · exfalso
      have hall : ∀ i, i < 64 → tb i < 33 := fun i hi => by
        by_cases z : 33 ≤ tb i
        · exact absurd ⟨i, hi, z⟩ hx
        · omega
      have := db_pig (m := 64) (n := 33) hall (fun i j hi hj e => h.2.1 i j hi hj (hall i hi) e)
      omega
  obtain ⟨i, hi, hti⟩ := hx
  obtain ⟨d, h1, h2⟩ := pk_least (fun d => 33 ≤ tb ((b + d) % 64)) ⟨(i + 64 - b) % 64, by
    show 33 ≤ tb ((b + (i + 64 - b) % 64) % 64)
    rw [show (b + (i + 64 - b) % 64) % 64 = i by omega]
    exact hti⟩
  refine ⟨d, ?_, h1, fun e he => ?_⟩
  · by_cases z : d < 64
    · exact z
    · exfalso
      have := h2 ((i + 64 - b) % 64) (by omega)
      have e : (b + (i + 64 - b) % 64) % 64 = i := by omega
      simp only [e] at this
      exact this hti
  · have := h2 e he
    try simp only at this
    omega
end
end
section
section
variable {fo fu fz : Int32} {aH aU aS aP aZ aC aF aL aT aK aQ : Nat → Int32}
variable {con hd us ct sg pl sz fl lv tb : Nat → Nat} {op used : Nat}
def db_inv (con hd us ct sg pl sz fl lv tb : Nat → Nat) (aC : Nat → Int32) (op used : Nat) : Prop :=
  db_hs con hd us ct ∧ db_tb tb us ct ∧ db_lg (db_lv us) ct op fl lv sg pl sz aC ∧ used = db_sm 33 (fun p => if 0 < us p then db_pz (ct p) else 0) ∧ used ≤ 48
theorem db_chain (h1 : db_hs con hd us ct) (h2 : db_tb tb us ct) {p : Nat} (hp : p < 33) (hu : 0 < us p) :
    ∃ d, d < 64 ∧ tb ((db_h (ct p) + d) % 64) = p ∧ ∀ e, e < d → tb ((db_h (ct p) + e) % 64) < 34 ∧ (tb ((db_h (ct p) + e) % 64) < 33 → 0 < us (tb ((db_h (ct p) + e) % 64)) ∧ ct (tb ((db_h (ct p) + e) % 64)) ≠ ct p) := by
  obtain ⟨d, hd', e1, e2⟩ := h2.2.2 p hp hu
  refine ⟨d, hd', e1, fun e he => ⟨e2 e he, fun z => ?_⟩⟩
  have hk : (db_h (ct p) + e) % 64 < 64 := Nat.mod_lt _ (by decide)
  have hl := h2.1 _ hk z
  refine ⟨hl, fun ec => ?_⟩
  have := h1.2.2.2 _ _ z hp hl hu ec
  have := h2.2.1 _ ((db_h (ct p) + d) % 64) hk (Nat.mod_lt _ (by decide)) z (this.trans e1.symm)
  omega
theorem db_findP {post : Int32 → Prop} (h1 : db_hs con hd us ct) (h2 : db_tb tb us ct) (h3 : db_lg (db_lv us) ct op fl lv sg pl sz aC) {p : Nat} (hp : p < 33) (hu : 0 < us p) (K : post (nI p)) :
    wpX_find post (fo, fu, fz, aH, aU, db_N sg, db_N pl, aZ, aC, aF, aL, db_E tb, aK, aQ) (nI (ct p)) := by
  obtain ⟨d, hd', e1, e2⟩ := db_chain h1 h2 hp hu
  exact db_findF (ct := ct) (h1.2.2.1 p hp hu).2 hd' hp e1 (db_lg_st h3 hp (db_lv_t.mpr hu)) (fun e he => ⟨(e2 e he).1, fun z => ⟨db_lg_st h3 z (db_lv_t.mpr ((e2 e he).2 z).1), ((e2 e he).2 z).2⟩⟩) K
theorem db_findQ {post : Int32 → Prop} (h2 : db_tb tb us ct) (h3 : db_lg (db_lv us) ct op fl lv sg pl sz aC) {c : Nat} (hc : c < 4096) (hno : ∀ p, p < 33 → 0 < us p → ct p ≠ c) (K : post (-4)) :
    wpX_find post (fo, fu, fz, aH, aU, db_N sg, db_N pl, aZ, aC, aF, aL, db_E tb, aK, aQ) (nI c) :=
  db_findN (ct := ct) hc (fun k hk z => ⟨db_lg_st h3 z (db_lv_t.mpr (h2.1 k hk z)), hno _ z (h2.1 k hk z)⟩) K
theorem db_release {post : SX → Prop} {n : Nat} (I : db_inv con hd us ct sg pl sz fl lv tb aC op used) (hn : n < 32)
    (K : ∀ (hd' us' lv' tb' : Nat → Nat) (used' : Nat), db_inv (db_up con n 0) hd' us' ct sg pl sz fl lv' tb' aC op used' → post (nI op, nI used', fz, db_E hd', db_N us', db_N sg, db_N pl, db_N sz, aC, db_N fl, db_N lv', db_E tb', aK, aQ)) :
    wpX_release post (nI op, nI used, fz, db_E hd, db_N us, db_N sg, db_N pl, db_N sz, aC, db_N fl, db_N lv, db_E tb, aK, aQ) (nI n) := by
  obtain ⟨h1, h2, h3, h4, h5⟩ := I
  have cn : (nI n).toNatClampNeg = n := nI_clamp (by omega)
  have hv : vp_in (nI n) 32 := vp_in_nI hn (by decide)
  have eH : upd (db_E hd) (nI n).toNatClampNeg (-4) = db_E (db_up hd n 34) := by
    rw [cn]
    exact db_Eu hd n 34 db_e_34.symm
  by_cases hp : hd n < 33
  · have hl := db_hs_live h1 hn hp
    have hus := db_hs_us h1 hp
    have h1' := db_hs_rel h1 hn hp
    have cp : (nI (hd n)).toNatClampNeg = hd n := nI_clamp (by omega)
    have hvp : vp_in (nI (hd n)) 33 := vp_in_nI hp (by decide)
    have ex : db_E hd (nI n).toNatClampNeg = nI (hd n) := by
      rw [cn]
      exact db_e_p hp
    have eU : upd (db_N us) (nI (hd n)).toNatClampNeg (db_N us (nI (hd n)).toNatClampNeg - 1) = db_N (db_up us (hd n) (us (hd n) - 1)) := by
      rw [cp, ← db_Nu]
      exact congrArg _ (pk_sub (a := us (hd n)) (b := 1) (by omega))
    have hAp := db_lv_t.mpr hl
    obtain ⟨g1, g2, g3, g4, g5⟩ := h3.2.2.1 _ hp hAp
    refine ⟨hv, nm_r ex ⟨hv, nm_r eH (br_t (nI_pos' (by omega)) ⟨hvp, hvp, nm_r eU ⟨hvp, ?_⟩⟩)⟩⟩
    have eu0 : db_N (db_up us (hd n) (us (hd n) - 1)) (nI (hd n)).toNatClampNeg = nI (us (hd n) - 1) := by
      rw [cp]
      exact congrArg nI db_us
    have hrest : ∀ q, q < 33 → q ≠ hd n → db_up us (hd n) (us (hd n) - 1) q = us q := fun q _ e => db_un e
    by_cases hu1 : us (hd n) = 1
    · refine br_t (by rw [eu0, hu1]; rfl) ?_
      have hz0 : db_up us (hd n) (us (hd n) - 1) (hd n) = 0 := by
        rw [db_us, hu1]
      refine db_contentOf hp rfl rfl (db_lg_st h3 hp hAp) ?_
      obtain ⟨d, hd', e1, e2⟩ := db_chain h1 h2 hp hl
      have hk : (db_h (ct (hd n)) + d) % 64 < 64 := Nat.mod_lt _ (by decide)
      refine db_pitF (ct := ct) g1 hd' hp e1 (db_lg_st h3 hp hAp) (fun e he => ⟨(e2 e he).1, fun z => ⟨db_lg_st h3 z (db_lv_t.mpr ((e2 e he).2 z).1), ((e2 e he).2 z).2⟩⟩) ?_
      have h3' := db_lg_rel (A' := db_lv (db_up us (hd n) (us (hd n) - 1))) h3 hp hAp (db_lv_f.mpr hz0) (fun q hq e => by
        unfold db_lv
        rw [hrest q hq e])
      have hsum := db_sm_u (f := fun p => if 0 < db_up us (hd n) (us (hd n) - 1) p then db_pz (ct p) else 0) (g := fun p => if 0 < us p then db_pz (ct p) else 0) (k := hd n) 33 hp (fun q hq e => by
        show (if 0 < db_up us (hd n) (us (hd n) - 1) q then db_pz (ct q) else 0) = (if 0 < us q then db_pz (ct q) else 0)
        rw [hrest q hq e])
      try simp only at hsum
      rw [hz0, if_pos hl, if_neg (Nat.lt_irrefl 0), ← h4] at hsum
      have esz : db_N sz (nI (hd n)).toNatClampNeg = nI (db_pz (ct (hd n))) := by
        rw [cp, ← g4]
        rfl
      have esg : db_N sg (nI (hd n)).toNatClampNeg = nI (sg (hd n)) := by
        rw [cp]
        rfl
      have hvs : vp_in (db_N sg (nI (hd n)).toNatClampNeg) 10 := by
        rw [esg]
        exact vp_in_nI g2 (by decide)
      refine ⟨vp_in_nI hk (by decide), nm_r (e' := db_E (db_up tb ((db_h (ct (hd n)) + d) % 64) 33)) ?_ ⟨hvp, nm_r (e' := nI (used - db_pz (ct (hd n)))) ?_ ⟨hvp, hvp, hvs, hvp, hvs, nm_r (e' := db_N (db_up lv (sg (hd n)) (lv (sg (hd n)) - db_pz (ct (hd n))))) ?_ (K _ _ _ _ _ ⟨h1', db_tb_rel h2 hk hp e1 hz0 hrest, h3'.1, ?_, ?_⟩)⟩⟩⟩
      · rw [nI_clamp (by omega)]
        exact db_Eu _ _ 33 db_e_33.symm
      · rw [esz]
        exact pk_sub (by omega)
      · rw [esz, esg, nI_clamp (by omega), ← db_Nu]
        exact congrArg _ (pk_sub h3'.2)
      · omega
      · omega
    · refine br_f (by rw [eu0]; exact nI_ne0 (by omega) (by omega)) (K _ _ _ _ _ ⟨h1', db_tb_c h2 (fun p hp' => ?_), db_lg_c h3 (fun p hp' => ?_) (fun _ _ _ => rfl), ?_, h5⟩)
      · by_cases e : p = hd n
        · rw [e, db_us]
          omega
        · rw [db_un e]
      · by_cases e : p = hd n
        · rw [e, hAp]
          exact db_lv_t.mpr (by rw [db_us]; omega)
        · unfold db_lv
          rw [db_un e]
      · rw [h4]
        refine db_sm_c 33 (fun p hp' => ?_)
        by_cases e : p = hd n
        · rw [e, db_us, if_pos hl, if_pos (by omega)]
        · rw [db_un e]
  · have h34 : hd n = 34 := by
      rcases h1.1 n hn with ⟨_, z⟩ | ⟨_, z, _⟩
      · exact z
      · omega
    have ex : db_E hd (nI n).toNatClampNeg = -4 := by
      rw [cn]
      exact (congrArg db_e h34).trans db_e_34
    exact ⟨hv, nm_r ex ⟨hv, nm_r eH (br_f (by decide) (K _ _ _ _ _ ⟨db_hs_rel0 h1 hn (by omega), h2, h3, h4, h5⟩))⟩⟩
theorem db_hold54 {post : SX → Prop} {n p : Nat} (hn : n < 32) (hp : p < 33) (K : post (fo, fu, fz, db_E (db_up hd n p), db_N (db_up us p (us p + 1)), aS, aP, aZ, aC, aF, aL, aT, aK, aQ)) : wX_hold_54 post (nI n) (nI p) fo fu fz (db_E hd) (db_N us) aS aP aZ aC aF aL aT aK aQ := by
  have hvp : vp_in (nI p) 33 := vp_in_nI hp (by decide)
  refine ⟨hvp, hvp, nm_r (e' := db_N (db_up us p (us p + 1))) ?_ ⟨vp_in_nI hn (by decide), nm_r (e' := db_E (db_up hd n p)) ?_ K⟩⟩
  · rw [nI_clamp (by omega), ← db_Nu]
    exact congrArg _ (nI_1 (us p))
  · rw [nI_clamp (by omega)]
    exact db_Eu _ _ _ (db_e_p hp).symm
/-- a state of the class that stands for the contents con -/
def db_R (u : SX) (con : Nat → Nat) : Prop :=
  ∃ (op used : Nat) (fz : Int32) (hd us sg pl sz fl lv tb ct : Nat → Nat) (aC aK aQ : Nat → Int32), u = (nI op, nI used, fz, db_E hd, db_N us, db_N sg, db_N pl, db_N sz, aC, db_N fl, db_N lv, db_E tb, aK, aQ) ∧ db_inv con hd us ct sg pl sz fl lv tb aC op used
theorem db_R_i (I : db_inv con hd us ct sg pl sz fl lv tb aC op used) : db_R (nI op, nI used, fz, db_E hd, db_N us, db_N sg, db_N pl, db_N sz, aC, db_N fl, db_N lv, db_E tb, aK, aQ) con :=
  ⟨op, used, fz, hd, us, sg, pl, sz, fl, lv, tb, ct, aC, aK, aQ, rfl, I⟩
theorem db_R_e {P : SX → Prop} {u : SX} (R : db_R u con)
    (h : ∀ (op used : Nat) (fz : Int32) (hd us sg pl sz fl lv tb ct : Nat → Nat) (aC aK aQ : Nat → Int32), db_inv con hd us ct sg pl sz fl lv tb aC op used → P (nI op, nI used, fz, db_E hd, db_N us, db_N sg, db_N pl, db_N sz, aC, db_N fl, db_N lv, db_E tb, aK, aQ)) : P u := by
  obtain ⟨op, used, fz, hd, us, sg, pl, sz, fl, lv, tb, ct, aC, aK, aQ, e, I⟩ := R
  rw [e]
  exact h op used fz hd us sg pl sz fl lv tb ct aC aK aQ I
theorem db_up2 (f : Nat → Nat) (n x y : Nat) : db_up (db_up f n x) n y = db_up f n y := by
  funext j
  by_cases e : j = n
  · rw [e, db_us, db_us]
  · rw [db_un e, db_un e, db_un e]
theorem db_new {post : SX → Prop} {n c : Nat} (I : db_inv con hd us ct sg pl sz fl lv tb aC op used) (hn : n < 32) (h0 : con n = 0) (hc0 : 0 < c) (hc : c < 4096) (hno : ∀ p, p < 33 → 0 < us p → ct p ≠ c) (hr : used + db_pz c ≤ 48)
    (K : ∀ u', db_R u' (db_up con n c) → post u') :
    wpX_provide (fun u => match u with | (fo, fu, fz, aH, aU, aS, aP, aZ, aC, aF, aL, aT, aK, aQ) => (wpX_freshPiece (fun r_53 => (wpX_append (fun u => match u with | (fo, fu, fz, aH, aU, aS, aP, aZ, aC, aF, aL, aT, aK, aQ) => (wpX_enter (fun u => match u with | (fo, fu, fz, aH, aU, aS, aP, aZ, aC, aF, aL, aT, aK, aQ) => (∀ x : Int32, x = fu + fz → (wX_hold_54 post (nI n) r_53 fo x fz aH aU aS aP aZ aC aF aL aT aK aQ))) (fo, fu, fz, aH, aU, aS, aP, aZ, aC, aF, aL, aT, aK, aQ) (nI c) r_53)) (fo, fu, fz, aH, aU, aS, aP, aZ, aC, aF, aL, aT, aK, aQ) r_53)) (fo, fu, fz, aH, aU, aS, aP, aZ, aC, aF, aL, aT, aK, aQ))) (nI op, nI used, fz, db_E hd, db_N us, db_N sg, db_N pl, db_N sz, aC, db_N fl, db_N lv, db_E tb, aK, aQ) (nI c) := by
  obtain ⟨h1, h2, h3, h4, h5⟩ := I
  have hz := db_pz_b c
  have hu : ∀ p, p < 33 → us p < 2 ^ 31 := fun p hp => by
    have := db_hs_us h1 hp
    omega
  have ht : db_sm 33 (fun q => if db_lv us q = true then db_pz (ct q) else 0) = used := by
    rw [h4]
    refine db_sm_c 33 (fun q _ => ?_)
    simp only [db_lv_t]
  refine db_provide hu h1.2.2.1 hc (by omega) (fun op2 fl2 lv2 sg2 pl2 sz2 aC2 aK2 aQ2 g3 hf hq => ?_) h3
  have hfree : ∃ p, p < 33 ∧ us p = 0 := by
    by_cases z : ∃ p, p < 33 ∧ us p = 0
    · exact z
    · exfalso
      have c2 : db_sm 33 (fun _ => 2) = 66 := by decide
      have := db_sm_le (f := fun _ => 2) (g := fun p => if 0 < us p then db_pz (ct p) else 0) 33 (fun p hp => by
        show 2 ≤ if 0 < us p then db_pz (ct p) else 0
        have hne : us p ≠ 0 := fun e => z ⟨p, hp, e⟩
        rw [if_pos (by omega)]
        exact (db_pz_b (ct p)).1)
      omega
  refine db_fresh hu hfree (fun p hp hp0 => ?_)
  refine db_append (op := op2) (z := db_pz c) (fl := fl2) (sg := sg2) (pl := pl2) (sz := sz2) (lv := lv2) hp g3.1 hz.2 hf (fun a ha hk => ?_)
  obtain ⟨d, hd', e1, e2⟩ := db_tb_free h2 (db_h c) (db_h_lt c)
  refine db_enter hc hd' hp e1 e2 (nm_r (nI_add used (db_pz c)) (db_hold54 hn hp (K _ (db_R_i (ct := db_up ct p c) ⟨?_, ?_, ?_, ?_, hr⟩))))
  · refine db_hs_hold h1 hn h0 hp ⟨hc0, hc⟩ db_us (fun z => absurd z (by omega)) (fun q _ e => db_un e) (fun q hq _ hl => hno q hq hl)
  · have e0 : db_up ct p c p = c := db_us
    have h := db_tb_new (ct' := db_up ct p c) (us' := db_up us p (us p + 1)) h2 (d := d) hd' hp (by rw [e0]; exact e1) (by rw [e0]; exact e2) hp0 (by rw [db_us]; omega) (fun q _ e => db_un e) (fun q _ e => db_un e)
    rw [e0] at h
    exact h
  · have e0 : db_up ct p c p = c := db_us
    have g3' : db_lg (db_lv us) (db_up ct p c) op2 fl2 lv2 sg2 pl2 sz2 aC2 := db_lg_c g3 (fun _ _ => rfl) (fun q _ hl => db_un (fun e => by
      rw [e, db_lv_t] at hl
      omega))
    have h := db_lg_app (A' := db_lv (db_up us p (us p + 1))) (a := a) g3' (o := op2) g3.1 hp (db_lv_f.mpr hp0) (db_lv_t.mpr (by rw [db_us]; omega)) (fun q _ e => by
      unfold db_lv
      rw [db_un e]) (by rw [e0]; exact hc) (by rw [e0]; exact hf) (by rw [e0]; exact fun i hi => by rw [ha i hi, hq i hi]) (by rw [e0]; exact hk)
    rw [e0] at h
    exact h
  · have hsum := db_sm_u (f := fun q => if 0 < db_up us p (us p + 1) q then db_pz (db_up ct p c q) else 0) (g := fun q => if 0 < us q then db_pz (ct q) else 0) (k := p) 33 hp (fun q _ e => by
      show (if 0 < db_up us p (us p + 1) q then db_pz (db_up ct p c q) else 0) = (if 0 < us q then db_pz (ct q) else 0)
      rw [db_un e, db_un e])
    simp only [db_us] at hsum
    rw [if_pos (Nat.succ_pos _), if_neg (show ¬ 0 < us p by omega), ← h4] at hsum
    omega
theorem db_hold {post : SX → Prop} {u : SX} {n c : Nat} (R : db_R u con) (hn : n < 32) (hc : c < 4096) (hpre : c = 0 ∨ 0 < db_ck 32 (db_up con n 0) c ∨ db_U (db_up con n 0) + db_pz c ≤ 48)
    (K : ∀ u', db_R u' (db_up con n c) → post u') : wpX_hold post u (nI n) (nI c) := by
  refine db_R_e (P := fun u => wpX_hold post u (nI n) (nI c)) R (fun op used fz hd us sg pl sz fl lv tb ct aC aK aQ I => ?_)
  unfold wpX_hold
  dsimp only
  refine db_release I hn (fun hd' us' lv' tb' used' I' => ?_)
  by_cases h0 : c = 0
  · subst h0
    exact br_t rfl (K _ (db_R_i I'))
  · refine br_f (nI_ne0 (by omega) (by omega)) ?_
    obtain ⟨h1, h2, h3, h4, h5⟩ := I'
    have hcn : db_up con n 0 n = 0 := db_us
    by_cases hk : 0 < db_ck 32 (db_up con n 0) c
    · obtain ⟨p, hp, hu, e⟩ := db_hs_ex h1 (by omega) hk
      subst e
      refine db_findP h1 h2 h3 hp hu (br_t (nI_pos' (by omega)) (db_hold54 hn hp (K _ ?_)))
      have hj := db_hs_hold (ct' := ct) h1 hn hcn hp (h1.2.2.1 p hp hu) rfl (fun _ => rfl) (fun _ _ _ => rfl) (fun q hq e hl z => e (h1.2.2.2 q p hq hp hl hu z))
      rw [db_up2] at hj
      have hpos : ∀ q, (0 < db_up us' p (us' p + 1) q ↔ 0 < us' q) := fun q => by
        by_cases e : q = p
        · rw [e, db_us]
          omega
        · rw [db_un e]
      refine db_R_i ⟨hj, db_tb_c h2 (fun q _ => hpos q), db_lg_c h3 (fun q _ => db_bext (by rw [db_lv_t, db_lv_t]; exact hpos q)) (fun _ _ _ => rfl), ?_, h5⟩
      rw [h4]
      exact db_sm_c 33 (fun q _ => by simp only [hpos q])
    · have hno : ∀ p, p < 33 → 0 < us' p → ct p ≠ c := by
        intro p hp hu e
        have := db_hs_ck h1 hp hu
        rw [e] at this
        omega
      refine db_findQ h2 h3 hc hno (br_f (by decide) ?_)
      have hU := db_hs_U h1
      have hr : used' + db_pz c ≤ 48 := by
        rcases hpre with z | z | z
        · exact absurd z h0
        · exact absurd z hk
        · omega
      refine db_new ⟨h1, h2, h3, h4, h5⟩ hn hcn (by omega) hc hno hr (fun u' R' => K u' ?_)
      rw [db_up2] at R'
      exact R'
end
end
section
section
variable {con : Nat → Nat}
/-! what is used: how a store changes it -/
theorem db_U_0 {n : Nat} (hn : n < 32) (hc : con n < 4096) : db_U (db_up con n 0) + (if db_ck 32 con (con n) = 1 then db_rm (con n) else 0) = db_U con := by
  have hs := db_sm_u (f := fun c => if 0 < db_ck 32 (db_up con n 0) c then db_rm c else 0) (g := fun c => if 0 < db_ck 32 con c then db_rm c else 0) (k := con n) 4096 hc (fun c _ e => by
    show (if 0 < db_ck 32 (db_up con n 0) c then db_rm c else 0) = (if 0 < db_ck 32 con c then db_rm c else 0)
    by_cases h0 : c = 0
    · rw [h0, db_rm_0, ite_self, ite_self]
    · have h1 := db_ck_u (k := 32) (n := n) (x := 0) (c := c) (a := con) hn
      rw [if_neg (fun z => e z.symm), if_neg (fun z => h0 z.symm)] at h1
      rw [show db_ck 32 (db_up con n 0) c = db_ck 32 con c by omega])
  try simp only at hs
  have hp : 0 < db_ck 32 con (con n) := db_ck_pos.mpr ⟨n, hn, rfl⟩
  rw [if_pos hp] at hs
  have e1 : db_U (db_up con n 0) = db_sm 4096 (fun c => if 0 < db_ck 32 (db_up con n 0) c then db_rm c else 0) := rfl
  have e2 : db_U con = db_sm 4096 (fun c => if 0 < db_ck 32 con c then db_rm c else 0) := rfl
  rw [← e1, ← e2] at hs
  by_cases h0 : con n = 0
  · rw [h0, db_rm_0, ite_self] at hs ⊢
    omega
  · have h1 := db_ck_u (k := 32) (n := n) (x := 0) (c := con n) (a := con) hn
    rw [if_pos rfl, if_neg (fun z => h0 z.symm)] at h1
    by_cases h2 : db_ck 32 con (con n) = 1
    · rw [if_pos h2]
      rw [if_neg (by omega)] at hs
      omega
    · rw [if_neg h2]
      rw [if_pos (by omega)] at hs
      omega
theorem db_U_c {n c : Nat} (hn : n < 32) (h0 : con n = 0) (hc : c < 4096) : db_U (db_up con n c) = db_U con + (if 0 < db_ck 32 con c then 0 else db_rm c) := by
  by_cases hc0 : c = 0
  · subst hc0
    have e : db_up con n 0 = con := by
      funext j
      by_cases ej : j = n
      · rw [ej, db_us, h0]
      · rw [db_un ej]
    rw [e, db_rm_0, ite_self, Nat.add_zero]
  · have hs := db_sm_u (f := fun i => if 0 < db_ck 32 (db_up con n c) i then db_rm i else 0) (g := fun i => if 0 < db_ck 32 con i then db_rm i else 0) (k := c) 4096 hc (fun i _ e => by
      show (if 0 < db_ck 32 (db_up con n c) i then db_rm i else 0) = (if 0 < db_ck 32 con i then db_rm i else 0)
      by_cases hi0 : i = 0
      · rw [hi0, db_rm_0, ite_self, ite_self]
      · have h1 := db_ck_u (k := 32) (n := n) (x := c) (c := i) (a := con) hn
        rw [if_neg (by omega), if_neg (fun z => e z.symm)] at h1
        rw [show db_ck 32 (db_up con n c) i = db_ck 32 con i by omega])
    try simp only at hs
    have e1 : db_U (db_up con n c) = db_sm 4096 (fun i => if 0 < db_ck 32 (db_up con n c) i then db_rm i else 0) := rfl
    have e2 : db_U con = db_sm 4096 (fun i => if 0 < db_ck 32 con i then db_rm i else 0) := rfl
    rw [← e1, ← e2] at hs
    have hp : 0 < db_ck 32 (db_up con n c) c := db_ck_pos.mpr ⟨n, hn, db_us⟩
    rw [if_pos hp] at hs
    by_cases h2 : 0 < db_ck 32 con c
    · rw [if_pos h2] at hs ⊢
      omega
    · rw [if_neg h2] at hs ⊢
      omega
theorem db_up_self {f : Nat → Nat} {n : Nat} {x : Nat} (h : f n = x) : db_up f n x = f := by
  funext j
  by_cases e : j = n
  · rw [e, db_us, h]
  · rw [db_un e]
/-- the use after a write -/
theorem db_U_w {n c : Nat} (hn : n < 32) (hcn : con n < 4096) (hc : c < 4096) (hne : con n ≠ c) : db_U (db_up con n c) + (if db_ck 32 con (con n) = 1 then db_rm (con n) else 0) = db_U con + (if 0 < c ∧ 0 < db_ck 32 con c then 0 else db_rm c) := by
  have h1 := db_U_0 hn hcn
  have h2 := db_U_c (con := db_up con n 0) (n := n) (c := c) hn db_us hc
  rw [db_up2] at h2
  generalize (if db_ck 32 con (con n) = 1 then db_rm (con n) else 0) = b at h1 ⊢
  by_cases h0 : c = 0
  · subst h0
    rw [if_neg (fun z => absurd z.1 (Nat.lt_irrefl 0)), db_rm_0]
    omega
  · have h3 := db_ck_u (k := 32) (n := n) (x := 0) (c := c) (a := con) hn
    rw [if_neg hne, if_neg (fun z => h0 z.symm)] at h3
    rw [show db_ck 32 (db_up con n 0) c = db_ck 32 con c by omega] at h2
    by_cases h4 : 0 < db_ck 32 con c
    · rw [if_pos ⟨by omega, h4⟩]
      rw [if_pos h4] at h2
      omega
    · rw [if_neg (fun z => h4 z.2)]
      rw [if_neg h4] at h2
      omega
/-- .. counted over the first k blocks -/
def db_Uk (k : Nat) (con : Nat → Nat) : Nat := db_sm 4096 (fun c => if 0 < db_ck k con c then db_rm c else 0)
theorem db_U_k : db_U con = db_Uk 32 con := by
  unfold db_U db_Uk
  rfl
theorem db_Uk_0 : db_Uk 0 con = 0 := by
  unfold db_Uk
  refine db_sm_0 4096 (fun c _ => ?_)
  have e : db_ck 0 con c = 0 := rfl
  rw [e]
  exact if_neg (Nat.lt_irrefl 0)
theorem db_Uk_s {k : Nat} (hc : con k < 4096) : db_Uk (k + 1) con = db_Uk k con + (if 0 < db_ck k con (con k) then 0 else db_rm (con k)) := by
  have hs := db_sm_u (f := fun c => if 0 < db_ck (k + 1) con c then db_rm c else 0) (g := fun c => if 0 < db_ck k con c then db_rm c else 0) (k := con k) 4096 hc (fun c _ e => by
    show (if 0 < db_ck (k + 1) con c then db_rm c else 0) = (if 0 < db_ck k con c then db_rm c else 0)
    rw [db_ck_s, if_neg (show ¬ con k = c from fun z => e z.symm), Nat.add_zero])
  try simp only at hs
  have e1 : db_Uk (k + 1) con = db_sm 4096 (fun c => if 0 < db_ck (k + 1) con c then db_rm c else 0) := rfl
  have e2 : db_Uk k con = db_sm 4096 (fun c => if 0 < db_ck k con c then db_rm c else 0) := rfl
  rw [← e1, ← e2, db_ck_s, if_pos rfl, if_pos (Nat.succ_pos _)] at hs
  by_cases h : 0 < db_ck k con (con k)
  · rw [if_pos h] at hs ⊢
    omega
  · rw [if_neg h] at hs ⊢
    omega
theorem db_sm_b {f : Nat → Nat} {b : Nat} : ∀ n, (∀ i, i < n → f i ≤ b) → db_sm n f ≤ n * b := by
  intro n
  induction n with
  | zero => exact fun _ => Nat.zero_le _
  | succ n ih =>
    intro h
    have h1 := ih (fun i hi => h i (by omega))
    have h2 := h n (by omega)
    rw [db_sm_s, Nat.succ_mul]
    omega
theorem db_Uk_le {k : Nat} (hc : ∀ n, n < k → con n < 4096) : db_Uk k con ≤ 5 * k := by
  induction k with
  | zero =>
    rw [db_Uk_0]
    exact Nat.zero_le _
  | succ k ih =>
    rw [db_Uk_s (hc k (by omega))]
    have h1 := ih (fun n hn => hc n (by omega))
    have h2 := db_rm_le (con k)
    split <;> omega
end
end
section
section
variable {con : Nat → Nat} {aY kY : Nat → Int32}
/-! the reference: its contents are con, block by block -/
def db_C (aY : Nat → Int32) (con : Nat → Nat) : Prop := ∀ n, n < 32 → aY n = nI (con n) ∧ con n < 4096
/-- out of range -/
def db_bd (N : Nat) (x : Int32) : Prop := x < 0 ∨ nI N ≤ x
theorem db_ix (x : Int32) {N : Nat} (hN : N < 2 ^ 31) : (∃ j, j < N ∧ x = nI j) ∨ db_bd N x := by
  rcases pk_ix x hN with h | h | h
  · exact Or.inr (Or.inl h)
  · exact Or.inr (Or.inr h)
  · exact Or.inl h
theorem db_bd_n {N : Nat} {x : Int32} (hN : N < 2 ^ 31) (h : nI N ≤ x) : ¬ x < 0 := by
  rw [Int32.not_lt]
  exact Int32.le_trans (nI_pos' hN) h
theorem db_yB_t {post : Int32 → Prop} {n : Nat} (hn : n < 32) (K : post 1) : wpY_isBlock post (aY, kY) (nI n) :=
  br_f (nI_pos (by omega)) (br_f (nI_nlt (a := 31) (by omega) (by omega)) K)
theorem db_yB_b {post : Int32 → Prop} {x : Int32} (hx : db_bd 32 x) (K : post 0) : wpY_isBlock post (aY, kY) x := by
  rcases hx with h | h
  · exact br_t h K
  · exact br_f (db_bd_n (by omega) h) (br_t (Int32.lt_of_lt_of_le (b := nI 32) (by decide) h) K)
theorem db_yV_t {post : Int32 → Prop} {n : Nat} (hn : n < 4) (K : post 1) : wpY_isVolume post (aY, kY) (nI n) :=
  br_f (nI_pos (by omega)) (br_f (nI_nlt (a := 3) (by omega) (by omega)) K)
theorem db_yV_b {post : Int32 → Prop} {x : Int32} (hx : db_bd 4 x) (K : post 0) : wpY_isVolume post (aY, kY) x := by
  rcases hx with h | h
  · exact br_t h K
  · exact br_f (db_bd_n (by omega) h) (br_t (Int32.lt_of_lt_of_le (b := nI 4) (by decide) h) K)
theorem db_yC_t {post : Int32 → Prop} {n : Nat} (hn : n < 4096) (K : post 1) : wpY_isContent post (aY, kY) (nI n) :=
  br_f (nI_pos (by omega)) (br_f (nI_nlt (a := 4095) (by omega) (by omega)) K)
theorem db_yC_b {post : Int32 → Prop} {x : Int32} (hx : db_bd 4096 x) (K : post 0) : wpY_isContent post (aY, kY) x := by
  rcases hx with h | h
  · exact br_t h K
  · exact br_f (db_bd_n (by omega) h) (br_t (Int32.lt_of_lt_of_le (b := nI 4096) (by decide) h) K)
theorem db_rs_hd (l : List Nat) {d : Nat} (hd : d < 8) : ∃ x t, db_rs l d = x :: t ∧ x % 8 = d := by
  rcases db_rs_or l hd with ⟨x, t, rfl, h⟩ | ⟨_, e⟩
  · exact ⟨x + 8, t, if_pos h, by omega⟩
  · exact ⟨d + 8, l, e, by omega⟩
theorem db_rp_len (c j : Nat) : (db_rp c (j + 2)).length = (db_rp c (j + 1)).length + (if db_dg c (j + 1) = db_dg c j then 0 else 1) := by
  obtain ⟨x, t, e, h⟩ := db_rs_hd (db_rp c j) (db_dg_lt c j)
  have e1 : db_rp c (j + 1) = x :: t := e
  have e2 : db_rp c (j + 2) = db_rs (x :: t) (db_dg c (j + 1)) := by
    rw [db_rp_s, e1]
  rw [e2, e1]
  by_cases hx : x % 8 = db_dg c (j + 1)
  · rw [show db_rs (x :: t) (db_dg c (j + 1)) = (x + 8) :: t from if_pos hx, if_pos (by omega)]
    rfl
  · rw [show db_rs (x :: t) (db_dg c (j + 1)) = (db_dg c (j + 1) + 8) :: x :: t from if_neg hx, if_neg (by omega)]
    rfl
theorem db_yroom {post : Int32 → Prop} {c : Nat} (hc : c < 4096) (K : post (nI (db_rm c))) : wpY_roomOf post (aY, kY) (nI c) := by
  by_cases h0 : c = 0
  · subst h0
    exact br_t rfl K
  · refine br_f (nI_ne0 (by omega) (by omega)) ?_
    have L : ∀ m j, j + m = 3 → wY_roomOf_10 post (nI c) aY kY (m + 1) (nI (db_rp c (j + 1)).length) (nI (j + 1)) := by
      intro m
      induction m with
      | zero =>
        intro j hj
        have : j = 3 := by omega
        subst this
        refine br_t (nI_le (a := 4) (b := 4) (by omega) (by decide)) ?_
        rw [nI_1]
        rw [db_rm_p (by omega)] at K
        exact K
      | succ m ih =>
        intro j hj
        have e3 : (3 : Int32) * nI (j + 1) - 3 = 3 * nI j := by
          rw [show (3 : Int32) * nI (j + 1) = nI (3 * (j + 1)) from pk_mul 3 (j + 1), show (3 : Int32) * nI j = nI (3 * j) from pk_mul 3 j]
          exact pk_sub (a := 3 * (j + 1)) (b := 3) (by omega)
        have hl := db_rp_len c j
        have d1 := db_dg_lt c j
        have d2 := db_dg_lt c (j + 1)
        refine br_f (nI_ge (b := 4) (by omega) (by decide)) (nm_r (db_dgI (by omega) (by omega)) (nm_r (e' := nI (db_dg c j)) ?_ ?_))
        · rw [e3]
          exact db_dgI (by omega) (by omega)
        · have ih' := ih (j + 1) (by omega)
          rw [hl] at ih'
          by_cases e : db_dg c (j + 1) = db_dg c j
          · rw [if_pos e] at ih'
            exact br_t (by rw [e]) (nm_r (nI_1 _) ih')
          · rw [if_neg e] at ih'
            exact br_f (fun z => e (db_inj (by omega) (by omega) z)) (nm_r (nI_1 _) (nm_r (nI_1 _) ih'))
    have h1 : (db_rp c 1).length = 1 := rfl
    have h := L 3 0 rfl
    rw [h1] at h
    exact ⟨4, h⟩
theorem db_ykeep {post : SY → Prop} (K : ∀ k : Nat → Int32, (∀ n, n < 32 → k n = aY n) → post (aY, k)) : wpY_keep post (aY, kY) := by
  have L : ∀ (m n : Nat) (k : Nat → Int32), n + m = 32 → (∀ j, j < n → k j = aY j) → wY_keep_2 post (m + 1) (nI n) aY k := by
    intro m
    induction m with
    | zero =>
      intro n k hn h
      have : n = 32 := by omega
      subst this
      exact br_t (nI_le (a := 32) (b := 32) (by omega) (by decide)) (K k h)
    | succ m ih =>
      intro n k hn h
      have hv : vp_in (nI n) 32 := vp_in_nI (by omega) (by decide)
      refine br_f (nI_ge (b := 32) (by omega) (by decide)) ⟨hv, hv, nm_r (e' := upd k n (aY n)) (by rw [nI_clamp (by omega)]) (nm_r (nI_1 n) (ih (n + 1) _ (by omega) (fun j hj => ?_)))⟩
      by_cases e : j = n
      · rw [e, pk_us]
      · rw [pk_un e]
        exact h j (by omega)
  exact ⟨33, L 32 0 kY rfl (fun j hj => absurd hj (Nat.not_lt_zero _))⟩
theorem db_C_eq (hC : db_C aY con) {m n : Nat} (hm : m < 32) (hn : n < 32) : aY m = aY n ↔ con m = con n := by
  have h1 := hC m hm
  have h2 := hC n hn
  rw [h1.1, h2.1]
  exact nI_eq (by omega) (by omega)
theorem db_C_at (hC : db_C aY con) {n : Nat} (hn : n < 32) : aY (nI n).toNatClampNeg = nI (con n) := by
  rw [nI_clamp (by omega)]
  exact (hC n hn).1
theorem db_yfirst {post : Int32 → Prop} {n : Nat} (hC : db_C aY con) (hn : n < 32) (K0 : 0 < db_ck n con (con n) → post 0) (K1 : ¬ 0 < db_ck n con (con n) → post 1) : wpY_isFirst post (aY, kY) (nI n) := by
  have L : ∀ m j, j + m = n → (∀ i, i < j → con i ≠ con n) → wY_isFirst_2 post (nI n) aY kY (m + 1) (nI j) := by
    intro m
    induction m with
    | zero =>
      intro j hj h
      have : j = n := by omega
      subst this
      refine br_t (Int32.le_refl _) (K1 (fun z => ?_))
      obtain ⟨i, hi, e⟩ := db_ck_pos.mp z
      exact h i hi e
    | succ m ih =>
      intro j hj h
      refine br_f (nI_ge (by omega) (by omega)) ⟨vp_in_nI (by omega) (by decide), vp_in_nI hn (by decide), ?_⟩
      rw [db_C_at hC (by omega), db_C_at hC hn, nI_eq (by have := (hC j (by omega)).2; omega) (by have := (hC n hn).2; omega)]
      by_cases e : con j = con n
      · exact br_t e (K0 (db_ck_pos.mpr ⟨j, by omega, e⟩))
      · refine br_f e (nm_r (nI_1 j) (ih (j + 1) (by omega) (fun i hi => ?_)))
        by_cases ei : i = j
        · rw [ei]
          exact e
        · exact h i (by omega)
  exact ⟨n + 1, L n 0 (by omega) (fun i hi => absurd hi (Nat.not_lt_zero _))⟩
theorem db_yused {post : Int32 → Prop} (hC : db_C aY con) (K : post (nI (db_U con))) : wpY_used post (aY, kY) := by
  have L : ∀ m k, k + m = 32 → wY_used_4 post aY kY (m + 1) (nI (db_Uk k con)) (nI k) := by
    intro m
    induction m with
    | zero =>
      intro k hk
      have : k = 32 := by omega
      subst this
      rw [db_U_k] at K
      exact br_t (nI_le (a := 32) (b := 32) (by omega) (by decide)) K
    | succ m ih =>
      intro k hk
      have hk' : k < 32 := by omega
      have hs := db_Uk_s (con := con) (k := k) (hC k hk').2
      have ih' := ih (k + 1) (by omega)
      rw [hs] at ih'
      refine br_f (nI_ge (b := 32) hk' (by decide)) (db_yfirst hC hk' (fun z => ?_) (fun z => ?_))
      · rw [if_pos z] at ih'
        exact br_t rfl (nm_r (nI_1 k) ih')
      · rw [if_neg z] at ih'
        refine br_f (by decide) ⟨vp_in_nI hk' (by decide), ?_⟩
        rw [db_C_at hC hk']
        exact db_yroom (hC k hk').2 (nm_r (nI_add _ _) (nm_r (nI_1 k) ih'))
  have h := L 32 0 rfl
  rw [db_Uk_0] at h
  exact ⟨33, h⟩
theorem db_ycount {post : Int32 → Prop} {c : Nat} (hC : db_C aY con) (hc : c < 4096) (K : post (nI (db_ck 32 con c))) : wpY_count post (aY, kY) (nI c) := by
  have L : ∀ m k, k + m = 32 → wY_count_4 post (nI c) aY kY (m + 1) (nI (db_ck k con c)) (nI k) := by
    intro m
    induction m with
    | zero =>
      intro k hk
      have : k = 32 := by omega
      subst this
      exact br_t (nI_le (a := 32) (b := 32) (by omega) (by decide)) K
    | succ m ih =>
      intro k hk
      have hk' : k < 32 := by omega
      have ih' := ih (k + 1) (by omega)
      rw [db_ck_s] at ih'
      refine br_f (nI_ge (b := 32) hk' (by decide)) ⟨vp_in_nI hk' (by decide), ?_⟩
      rw [db_C_at hC hk', nI_eq (by have := (hC k hk').2; omega) (by omega)]
      by_cases e : con k = c
      · rw [if_pos e] at ih'
        exact br_t e (nm_r (nI_1 _) (nm_r (nI_1 k) ih'))
      · rw [if_neg e] at ih'
        exact br_f e (nm_r (nI_1 k) ih')
  exact ⟨33, L 32 0 rfl⟩
theorem db_yfull {post : Int32 → SY → Prop} {con0 : Nat → Nat} (hC : db_C aY con) (hk : db_C kY con0) (K0 : db_U con ≤ 48 → post 0 (aY, kY)) (K1 : 48 < db_U con → ∀ a, db_C a con0 → post 1 (a, kY)) : wpY_isFull post (aY, kY) := by
  unfold wpY_isFull
  dsimp only
  have hU := db_Uk_le (con := con) (k := 32) (fun n hn => (hC n hn).2)
  rw [← db_U_k] at hU
  refine db_yused hC ?_
  by_cases h : 48 < db_U con
  · refine br_t (nI_lt (a := 48) h (by omega)) ?_
    have L : ∀ (m n : Nat) (a : Nat → Int32), n + m = 32 → (∀ j, j < n → a j = kY j) → wY_isFull_13 post (m + 1) (nI n) a kY := by
      intro m
      induction m with
      | zero =>
        intro n a hn h'
        have : n = 32 := by omega
        subst this
        refine br_t (nI_le (a := 32) (b := 32) (by omega) (by decide)) (K1 h a (fun j hj => ?_))
        rw [h' j hj]
        exact hk j hj
      | succ m ih =>
        intro n a hn h'
        have hv : vp_in (nI n) 32 := vp_in_nI (by omega) (by decide)
        refine br_f (nI_ge (b := 32) (by omega) (by decide)) ⟨hv, hv, nm_r (e' := upd a n (kY n)) (by rw [nI_clamp (by omega)]) (nm_r (nI_1 n) (ih (n + 1) _ (by omega) (fun j hj => ?_)))⟩
        by_cases e : j = n
        · rw [e, pk_us]
        · rw [pk_un e]
          exact h' j (by omega)
    exact ⟨33, L 32 0 aY rfl (fun j hj => absurd hj (Nat.not_lt_zero _))⟩
  · exact br_f (nI_nlt (a := 48) (by omega) (by omega)) (K0 (by omega))
theorem db_C_up (hC : db_C aY con) {n c : Nat} (hc : c < 4096) : db_C (upd aY n (nI c)) (db_up con n c) := by
  intro j hj
  by_cases e : j = n
  · rw [e, pk_us, db_us]
    exact ⟨rfl, hc⟩
  · rw [pk_un e, db_un e]
    exact hC j hj
theorem db_C_k {k : Nat → Int32} (hC : db_C aY con) (h : ∀ n, n < 32 → k n = aY n) : db_C k con := fun n hn => by
  rw [h n hn]
  exact hC n hn
end
end
section
section
variable {fo fu fz : Int32} {aH aU aS aP aZ aC aF aL aT aK aQ : Nat → Int32}
variable {con hd us ct sg pl sz fl lv tb : Nat → Nat} {op used : Nat} {aY kY : Nat → Int32} {u : SX}
/-! calls that only read -/
theorem db_xB_t {post : Int32 → Prop} {n : Nat} (hn : n < 32) (K : post 0) : wpX_bad post (fo, fu, fz, aH, aU, aS, aP, aZ, aC, aF, aL, aT, aK, aQ) (nI n) :=
  br_f (nI_pos (by omega)) (br_t (nI_lt (b := 32) hn (by decide)) K)
theorem db_xB_b {post : Int32 → Prop} {x : Int32} (hx : db_bd 32 x) (K : post 1) : wpX_bad post (fo, fu, fz, aH, aU, aS, aP, aZ, aC, aF, aL, aT, aK, aQ) x := by
  rcases hx with h | h
  · exact br_t h K
  · exact br_f (db_bd_n (by omega) h) (br_f (Int32.not_lt.mpr h) K)
theorem db_xV_t {post : Int32 → Prop} {n : Nat} (hn : n < 4) (K : post 0) : wpX_badVolume post (fo, fu, fz, aH, aU, aS, aP, aZ, aC, aF, aL, aT, aK, aQ) (nI n) :=
  br_f (nI_pos (by omega)) (br_t (nI_le (b := 3) (by omega) (by decide)) K)
theorem db_xV_b {post : Int32 → Prop} {x : Int32} (hx : db_bd 4 x) (K : post 1) : wpX_badVolume post (fo, fu, fz, aH, aU, aS, aP, aZ, aC, aF, aL, aT, aK, aQ) x := by
  rcases hx with h | h
  · exact br_t h K
  · exact br_f (db_bd_n (by omega) h) (br_f (Int32.not_le.mpr (Int32.lt_of_lt_of_le (b := nI 4) (by decide) h)) K)
theorem db_rd {post : Int32 → Prop} {n : Nat} (I : db_inv con hd us ct sg pl sz fl lv tb aC op used) (hn : n < 32) (K : post (nI (con n))) : wpX_contentOf post (nI op, nI used, fz, db_E hd, db_N us, db_N sg, db_N pl, db_N sz, aC, db_N fl, db_N lv, db_E tb, aK, aQ) (db_E hd (nI n).toNatClampNeg) := by
  obtain ⟨h1, h2, h3, h4, h5⟩ := I
  rw [db_Ecl hd (by omega)]
  rcases h1.1 n hn with ⟨e0, e1⟩ | ⟨e0, e1, e2⟩
  · rw [e1, db_e_34]
    rw [e0] at K
    exact db_contentN K
  · rw [db_e_p e1]
    rw [← e2] at K
    exact db_contentOf e1 rfl rfl (db_lg_st h3 e1 (db_lv_t.mpr (db_hs_live h1 hn e1))) K
theorem db_xread {post : Int32 → Prop} {n : Nat} (R : db_R u con) (hn : n < 32) (K : post (nI (con n))) : wpX_read post u (nI n) := by
  refine db_R_e (P := fun u => wpX_read post u (nI n)) R (fun op used fz hd us sg pl sz fl lv tb ct aC aK aQ I => ?_)
  unfold wpX_read
  dsimp only
  exact db_xB_t hn (br_t rfl ⟨vp_in_nI hn (by decide), db_rd I hn K⟩)
theorem db_xread_b {post : Int32 → Prop} {x : Int32} (hx : db_bd 32 x) (K : post (-1)) : wpX_read post u x := by
  obtain ⟨fo, fu, fz, aH, aU, aS, aP, aZ, aC, aF, aL, aT, aK, aQ⟩ := u
  unfold wpX_read
  dsimp only
  exact db_xB_b hx (br_f (by decide) K)
theorem db_yread {post : Int32 → Prop} {n : Nat} (hC : db_C aY con) (hn : n < 32) (K : post (nI (con n))) : wpY_read post (aY, kY) (nI n) := by
  unfold wpY_read
  dsimp only
  refine db_yB_t hn (br_f (by decide) ⟨vp_in_nI hn (by decide), ?_⟩)
  rw [db_C_at hC hn]
  exact K
theorem db_yread_b {post : Int32 → Prop} {x : Int32} (hx : db_bd 32 x) (K : post (-1)) : wpY_read post (aY, kY) x := by
  unfold wpY_read
  dsimp only
  exact db_yB_b hx (br_t rfl K)
/-! alone -/
def db_al (con : Nat → Nat) (n : Nat) : Nat := if db_ck 32 con (con n) = 1 then db_rm (con n) else 0
theorem db_xaloneI {post : Int32 → Prop} {n : Nat} (I : db_inv con hd us ct sg pl sz fl lv tb aC op used) (hn : n < 32) (K : post (nI (db_al con n))) : wpX_alone post (nI op, nI used, fz, db_E hd, db_N us, db_N sg, db_N pl, db_N sz, aC, db_N fl, db_N lv, db_E tb, aK, aQ) (nI n) := by
  unfold wpX_alone
  dsimp only
  refine db_xB_t hn (br_t rfl ⟨vp_in_nI hn (by decide), nm_r (db_Ecl hd (by omega)) ?_⟩)
  obtain ⟨h1, h2, h3, h4, h5⟩ := I
  rcases h1.1 n hn with ⟨e0, e1⟩ | ⟨e0, e1, e2⟩
  · have e : db_al con n = 0 := by
      unfold db_al
      rw [e0, db_rm_0, ite_self]
    rw [e] at K
    rw [e1, db_e_34]
    exact br_t (by decide) K
  · have hl := db_hs_live h1 hn e1
    have hz := (h3.2.2.1 _ e1 (db_lv_t.mpr hl)).2.2.2.1
    have hck := db_hs_ck h1 e1 hl
    have hus := db_hs_us h1 e1
    rw [e2] at hck hz
    have hv : vp_in (nI (hd n)) 33 := vp_in_nI e1 (by decide)
    rw [db_e_p e1]
    refine br_f (nI_pos (by omega)) ⟨hv, ?_⟩
    rw [db_Ncl us (by omega), db_Ncl sz (by omega), hz]
    have eq1 : nI (us (hd n)) = 1 ↔ us (hd n) = 1 := nI_eq (b := 1) (by omega) (by decide)
    rw [eq1, hck]
    unfold db_al at K
    by_cases h : db_ck 32 con (con n) = 1
    · rw [if_pos h, db_rm_p e0] at K
      exact br_t h ⟨hv, K⟩
    · rw [if_neg h] at K
      exact br_f h K
theorem db_xalone {post : Int32 → Prop} {n : Nat} (R : db_R u con) (hn : n < 32) (K : post (nI (db_al con n))) : wpX_alone post u (nI n) :=
  db_R_e (P := fun u => wpX_alone post u (nI n)) R (fun op used fz hd us sg pl sz fl lv tb ct aC aK aQ I => db_xaloneI I hn K)
theorem db_xalone_b {post : Int32 → Prop} {x : Int32} (hx : db_bd 32 x) (K : post (-1)) : wpX_alone post u x := by
  obtain ⟨fo, fu, fz, aH, aU, aS, aP, aZ, aC, aF, aL, aT, aK, aQ⟩ := u
  unfold wpX_alone
  dsimp only
  exact db_xB_b hx (br_f (by decide) K)
theorem db_yalone {post : Int32 → Prop} {n : Nat} (hC : db_C aY con) (hn : n < 32) (K : post (nI (db_al con n))) : wpY_alone post (aY, kY) (nI n) := by
  unfold wpY_alone
  dsimp only
  have hv : vp_in (nI n) 32 := vp_in_nI hn (by decide)
  refine db_yB_t hn (br_f (by decide) ⟨hv, ?_⟩)
  rw [db_C_at hC hn]
  refine db_ycount hC (hC n hn).2 ?_
  have hle := db_ck_le con (con n) 32
  have eq1 : nI (db_ck 32 con (con n)) = 1 ↔ db_ck 32 con (con n) = 1 := nI_eq (b := 1) (by omega) (by decide)
  rw [eq1]
  unfold db_al at K
  by_cases h : db_ck 32 con (con n) = 1
  · rw [if_pos h] at K
    exact br_t h ⟨hv, db_yroom (hC n hn).2 K⟩
  · rw [if_neg h] at K
    exact br_f h K
theorem db_yalone_b {post : Int32 → Prop} {x : Int32} (hx : db_bd 32 x) (K : post (-1)) : wpY_alone post (aY, kY) x := by
  unfold wpY_alone
  dsimp only
  exact db_yB_b hx (br_t rfl K)
/-! used, distinct, saved -/
theorem db_xused {post : Int32 → Prop} (R : db_R u con) (K : post (nI (db_U con))) : wpX_used post u := by
  refine db_R_e (P := fun u => wpX_used post u) R (fun op used fz hd us sg pl sz fl lv tb ct aC aK aQ I => ?_)
  obtain ⟨h1, h2, h3, h4, h5⟩ := I
  rw [← db_hs_U h1, ← h4] at K
  exact K
theorem db_R_U (R : db_R u con) : db_U con ≤ 48 := by
  refine db_R_e (P := fun _ => db_U con ≤ 48) R (fun op used fz hd us sg pl sz fl lv tb ct aC aK aQ I => ?_)
  obtain ⟨h1, h2, h3, h4, h5⟩ := I
  rw [← db_hs_U h1, ← h4]
  exact h5
def db_D (k : Nat) (con : Nat → Nat) : Nat := db_sm 4096 (fun c => if 0 < c ∧ 0 < db_ck k con c then 1 else 0)
theorem db_D_0 : db_D 0 con = 0 := by
  unfold db_D
  refine db_sm_0 4096 (fun c _ => ?_)
  have e : db_ck 0 con c = 0 := rfl
  rw [e]
  exact if_neg (fun z => absurd z.2 (Nat.lt_irrefl 0))
theorem db_D_s {k : Nat} (hc : con k < 4096) : db_D (k + 1) con = db_D k con + (if 0 < con k ∧ ¬ 0 < db_ck k con (con k) then 1 else 0) := by
  have hs := db_sm_u (f := fun c => if 0 < c ∧ 0 < db_ck (k + 1) con c then 1 else 0) (g := fun c => if 0 < c ∧ 0 < db_ck k con c then 1 else 0) (k := con k) 4096 hc (fun c _ e => by
    show (if 0 < c ∧ 0 < db_ck (k + 1) con c then 1 else 0) = (if 0 < c ∧ 0 < db_ck k con c then 1 else 0)
    rw [db_ck_s, if_neg (show ¬ con k = c from fun z => e z.symm), Nat.add_zero])
  try simp only at hs
  have e1 : db_D (k + 1) con = db_sm 4096 (fun c => if 0 < c ∧ 0 < db_ck (k + 1) con c then 1 else 0) := rfl
  have e2 : db_D k con = db_sm 4096 (fun c => if 0 < c ∧ 0 < db_ck k con c then 1 else 0) := rfl
  rw [← e1, ← e2, db_ck_s, if_pos (rfl : con k = con k)] at hs
  by_cases h0 : 0 < con k
  · rw [if_pos (show 0 < con k ∧ 0 < db_ck k con (con k) + 1 from ⟨h0, Nat.succ_pos _⟩)] at hs
    by_cases h : 0 < db_ck k con (con k)
    · rw [if_pos (show 0 < con k ∧ 0 < db_ck k con (con k) from ⟨h0, h⟩)] at hs
      rw [if_neg (fun z => z.2 h)]
      omega
    · rw [if_neg (show ¬ (0 < con k ∧ 0 < db_ck k con (con k)) from fun z => h z.2)] at hs
      rw [if_pos ⟨h0, h⟩]
      omega
  · rw [if_neg (fun z => h0 z.1), if_neg (fun z => h0 z.1)] at hs
    rw [if_neg (fun z => h0 z.1)]
    omega
theorem db_ydistinct {post : Int32 → Prop} (hC : db_C aY con) (K : post (nI (db_D 32 con))) : wpY_distinct post (aY, kY) := by
  have L : ∀ m k, k + m = 32 → wY_distinct_4 post aY kY (m + 1) (nI (db_D k con)) (nI k) := by
    intro m
    induction m with
    | zero =>
      intro k hk
      have : k = 32 := by omega
      subst this
      exact br_t (nI_le (a := 32) (b := 32) (by omega) (by decide)) K
    | succ m ih =>
      intro k hk
      have hk' : k < 32 := by omega
      have hck := (hC k hk').2
      have ih' := ih (k + 1) (by omega)
      rw [db_D_s hck] at ih'
      refine br_f (nI_ge (b := 32) hk' (by decide)) ⟨vp_in_nI hk' (by decide), ?_⟩
      rw [db_C_at hC hk', db_eq0 (by omega)]
      by_cases h0 : con k = 0
      · rw [if_neg (fun z => absurd z.1 (by omega))] at ih'
        exact br_t h0 (nm_r (nI_1 k) ih')
      · refine br_f h0 (db_yfirst hC hk' (fun z => ?_) (fun z => ?_))
        · rw [if_neg (fun w => w.2 z)] at ih'
          exact br_t rfl (nm_r (nI_1 k) ih')
        · rw [if_pos ⟨by omega, z⟩] at ih'
          exact br_f (by decide) (nm_r (nI_1 _) (nm_r (nI_1 k) ih'))
  have h := L 32 0 rfl
  rw [db_D_0] at h
  exact ⟨33, h⟩
theorem db_xdistinct {post : Int32 → Prop} (R : db_R u con) (K : post (nI (db_D 32 con))) : wpX_distinct post u := by
  refine db_R_e (P := fun u => wpX_distinct post u) R (fun op used fz hd us sg pl sz fl lv tb ct aC aK aQ I => ?_)
  obtain ⟨h1, h2, h3, h4, h5⟩ := I
  have e : db_sm 33 (fun p => if 0 < us p then 1 else 0) = db_D 32 con := db_hs_tr h1 (fun _ => 1)
  have L : ∀ m p, p + m = 33 → wX_distinct_4 post (nI op) (nI used) fz (db_E hd) (db_N us) (db_N sg) (db_N pl) (db_N sz) aC (db_N fl) (db_N lv) (db_E tb) aK aQ (m + 1) (nI (db_sm p (fun p => if 0 < us p then 1 else 0))) (nI p) := by
    intro m
    induction m with
    | zero =>
      intro p hp
      have : p = 33 := by omega
      subst this
      rw [e]
      exact br_t (nI_le (a := 33) (b := 33) (by omega) (by decide)) K
    | succ m ih =>
      intro p hp
      have hp' : p < 33 := by omega
      have hus := db_hs_us h1 hp'
      have ih' := ih (p + 1) (by omega)
      rw [db_sm_s] at ih'
      refine br_f (nI_ge (b := 33) hp' (by decide)) ⟨vp_in_nI hp' (by decide), ?_⟩
      rw [db_Ncl us (by omega), db_le0 (by omega)]
      by_cases h0 : us p = 0
      · rw [if_neg (by omega)] at ih'
        exact br_t h0 (nm_r (nI_1 p) ih')
      · rw [if_pos (by omega)] at ih'
        exact br_f h0 (nm_r (nI_1 _) (nm_r (nI_1 p) ih'))
  exact ⟨34, L 33 0 rfl⟩
def db_S (con : Nat → Nat) : Nat := db_sm 32 (fun n => db_rm (con n))
theorem db_ysaved {post : Int32 → Prop} (hC : db_C aY con) (K : post (nI (db_S con) - nI (db_U con))) : wpY_saved post (aY, kY) := by
  have L : ∀ m k, k + m = 32 → wY_saved_4 post aY kY (m + 1) (nI (db_sm k (fun n => db_rm (con n)))) (nI k) := by
    intro m
    induction m with
    | zero =>
      intro k hk
      have : k = 32 := by omega
      subst this
      exact br_t (nI_le (a := 32) (b := 32) (by omega) (by decide)) (db_yused hC K)
    | succ m ih =>
      intro k hk
      have hk' : k < 32 := by omega
      have ih' := ih (k + 1) (by omega)
      rw [db_sm_s] at ih'
      refine br_f (nI_ge (b := 32) hk' (by decide)) ⟨vp_in_nI hk' (by decide), ?_⟩
      rw [db_C_at hC hk']
      exact db_yroom (hC k hk').2 (nm_r (nI_add _ _) (nm_r (nI_1 k) ih'))
  exact ⟨33, L 32 0 rfl⟩
theorem db_xsaved {post : Int32 → Prop} (R : db_R u con) (K : post (nI (db_S con) - nI (db_U con))) : wpX_saved post u := by
  refine db_R_e (P := fun u => wpX_saved post u) R (fun op used fz hd us sg pl sz fl lv tb ct aC aK aQ I => ?_)
  obtain ⟨h1, h2, h3, h4, h5⟩ := I
  rw [← db_hs_U h1, ← h4] at K
  have e : db_sm 33 (fun p => us p * sz p) = db_S con := by
    have e1 : db_sm 33 (fun p => us p * sz p) = db_sm 33 (fun p => if 0 < us p then (fun c => db_ck 32 con c * db_rm c) (ct p) else 0) := by
      refine db_sm_c 33 (fun p hp => ?_)
      by_cases h : 0 < us p
      · rw [if_pos h]
        show us p * sz p = db_ck 32 con (ct p) * db_rm (ct p)
        rw [← db_hs_ck h1 hp h, (h3.2.2.1 p hp (db_lv_t.mpr h)).2.2.2.1, db_rm_p (h1.2.2.1 p hp h).1]
      · rw [if_neg h, show us p = 0 by omega, Nat.zero_mul]
    have e2 : db_S con = db_sm 4096 (fun c => db_ck 32 con c * db_rm c) := db_trn (fun n hn => db_hs_con h1 hn)
    refine (e1.trans (db_hs_tr h1 (fun c => db_ck 32 con c * db_rm c))).trans ?_
    rw [e2]
    refine db_sm_c 4096 (fun c _ => ?_)
    by_cases h : 0 < c ∧ 0 < db_ck 32 con c
    · rw [if_pos h]
    · rw [if_neg h]
      by_cases h0 : c = 0
      · rw [h0, db_rm_0, Nat.mul_zero]
      · rw [show db_ck 32 con c = 0 by omega, Nat.zero_mul]
  have L : ∀ m p, p + m = 33 → wX_saved_4 post (nI op) (nI used) fz (db_E hd) (db_N us) (db_N sg) (db_N pl) (db_N sz) aC (db_N fl) (db_N lv) (db_E tb) aK aQ (m + 1) (nI (db_sm p (fun p => us p * sz p))) (nI p) := by
    intro m
    induction m with
    | zero =>
      intro p hp
      have : p = 33 := by omega
      subst this
      rw [e]
      exact br_t (nI_le (a := 33) (b := 33) (by omega) (by decide)) K
    | succ m ih =>
      intro p hp
      have hp' : p < 33 := by omega
      have hv : vp_in (nI p) 33 := vp_in_nI hp' (by decide)
      have ih' := ih (p + 1) (by omega)
      rw [db_sm_s] at ih'
      refine br_f (nI_ge (b := 33) hp' (by decide)) ⟨hv, hv, nm_r (e' := nI (db_sm p (fun p => us p * sz p) + us p * sz p)) ?_ (nm_r (nI_1 p) ih')⟩
      rw [db_Ncl us (by omega), db_Ncl sz (by omega), pk_mul, nI_add]
  exact ⟨34, L 33 0 rfl⟩
/-! holders -/
theorem db_findE {post : Int32 → Prop} {c : Nat} (I : db_inv con hd us ct sg pl sz fl lv tb aC op used) (hc : c < 4096) (K1 : ∀ p, p < 33 → 0 < us p → ct p = c → post (nI p)) (K0 : (¬ (0 < c ∧ 0 < db_ck 32 con c)) → post (-4)) : wpX_find post (nI op, nI used, fz, db_E hd, db_N us, db_N sg, db_N pl, db_N sz, aC, db_N fl, db_N lv, db_E tb, aK, aQ) (nI c) := by
  obtain ⟨h1, h2, h3, h4, h5⟩ := I
  by_cases h : 0 < c ∧ 0 < db_ck 32 con c
  · obtain ⟨p, hp, hu, e⟩ := db_hs_ex h1 h.1 h.2
    subst e
    exact db_findP h1 h2 h3 hp hu (K1 p hp hu rfl)
  · refine db_findQ h2 h3 hc (fun p hp hu e => h ?_) (K0 h)
    have a := h1.2.2.1 p hp hu
    have b := db_hs_ck h1 hp hu
    rw [e] at a b
    exact ⟨a.1, by omega⟩
theorem db_xholders {post : Int32 → Prop} {c : Nat} (R : db_R u con) (hc : c < 4096) (K : post (nI (db_ck 32 con c))) : wpX_holders post u (nI c) := by
  refine db_R_e (P := fun u => wpX_holders post u (nI c)) R (fun op used fz hd us sg pl sz fl lv tb ct aC aK aQ I => ?_)
  refine br_f (nI_pos (by omega)) (br_t (nI_le (b := 4095) (by omega) (by decide)) ?_)
  by_cases h0 : c = 0
  · subst h0
    have L : ∀ m k, k + m = 32 → wX_holders_21 post (nI op) (nI used) fz (db_E hd) (db_N us) (db_N sg) (db_N pl) (db_N sz) aC (db_N fl) (db_N lv) (db_E tb) aK aQ (m + 1) (nI (db_ck k con 0)) (nI k) := by
      intro m
      induction m with
      | zero =>
        intro k hk
        have : k = 32 := by omega
        subst this
        exact br_t (nI_le (a := 32) (b := 32) (by omega) (by decide)) K
      | succ m ih =>
        intro k hk
        have hk' : k < 32 := by omega
        have ih' := ih (k + 1) (by omega)
        rw [db_ck_s] at ih'
        refine br_f (nI_ge (b := 32) hk' (by decide)) ⟨vp_in_nI hk' (by decide), ?_⟩
        rw [db_Ecl hd (by omega)]
        rcases I.1.1 k hk' with ⟨e0, e1⟩ | ⟨e0, e1, e2⟩
        · rw [if_pos e0] at ih'
          exact br_f (db_e_nle (by omega)) (nm_r (nI_1 _) (nm_r (nI_1 k) ih'))
        · rw [if_neg (by omega)] at ih'
          exact br_t (db_e_le e1) (nm_r (nI_1 k) ih')
    exact br_t rfl ⟨33, L 32 0 rfl⟩
  · refine br_f (nI_ne0 (by omega) (by omega)) (db_findE I hc (fun p hp hu e => ?_) (fun h => ?_))
    · refine br_t (nI_pos' (by omega)) ⟨vp_in_nI hp (by decide), ?_⟩
      rw [db_Ncl us (by omega), db_hs_ck I.1 hp hu, e]
      exact K
    · have e : db_ck 32 con c = 0 := by omega
      rw [e] at K
      exact br_f (by decide) K
theorem db_xholders_b {post : Int32 → Prop} {x : Int32} (hx : db_bd 4096 x) (K : post (-1)) : wpX_holders post u x := by
  obtain ⟨fo, fu, fz, aH, aU, aS, aP, aZ, aC, aF, aL, aT, aK, aQ⟩ := u
  rcases hx with h | h
  · exact br_t h K
  · exact br_f (db_bd_n (by omega) h) (br_f (Int32.not_le.mpr (Int32.lt_of_lt_of_le (b := nI 4096) (by decide) h)) K)
theorem db_yholders {post : Int32 → Prop} {c : Nat} (hC : db_C aY con) (hc : c < 4096) (K : post (nI (db_ck 32 con c))) : wpY_holders post (aY, kY) (nI c) := by
  unfold wpY_holders
  dsimp only
  exact db_yC_t hc (br_f (by decide) (db_ycount hC hc K))
theorem db_yholders_b {post : Int32 → Prop} {x : Int32} (hx : db_bd 4096 x) (K : post (-1)) : wpY_holders post (aY, kY) x := by
  unfold wpY_holders
  dsimp only
  exact db_yC_b hx (br_t rfl K)
end
end
section
section
variable {fo fu fz : Int32} {aH aU aS aP aZ aC aF aL aT aK aQ : Nat → Int32}
variable {con hd us ct sg pl sz fl lv tb : Nat → Nat} {op used : Nat} {aY kY : Nat → Int32} {u : SX}
/-! twin: in lockstep -/
theorem db_hs_eq (h1 : db_hs con hd us ct) {k n : Nat} (hk : k < 32) (hn : n < 32) : (db_e (hd k) = db_e (hd n) ↔ con k = con n) := by
  rcases h1.1 k hk with ⟨a0, a1⟩ | ⟨a0, a1, a2⟩
  · rcases h1.1 n hn with ⟨b0, b1⟩ | ⟨b0, b1, b2⟩
    · rw [a0, a1, b0, b1]
      exact ⟨fun _ => rfl, fun _ => rfl⟩
    · constructor
      · intro z
        have := db_e_inj b1 z.symm
        omega
      · intro z
        omega
  · constructor
    · intro z
      have e := db_e_inj a1 z
      rcases h1.1 n hn with ⟨b0, b1⟩ | ⟨b0, b1, b2⟩
      · omega
      · rw [← a2, ← b2, e]
    · intro z
      rcases h1.1 n hn with ⟨b0, b1⟩ | ⟨b0, b1, b2⟩
      · omega
      · rw [h1.2.2.2 _ _ a1 b1 (db_hs_live h1 hk a1) (db_hs_live h1 hn b1) (by rw [a2, b2, z])]
theorem db_twin {n : Nat} (R : db_R u con) (hC : db_C aY con) (hn : n < 32) : ∃ r : Int32, (∀ post : Int32 → Prop, post r → wpX_twin post u (nI n)) ∧ (∀ post : Int32 → Prop, post r → wpY_twin post (aY, kY) (nI n)) := by
  refine db_R_e (P := fun u => ∃ r : Int32, (∀ post : Int32 → Prop, post r → wpX_twin post u (nI n)) ∧ (∀ post : Int32 → Prop, post r → wpY_twin post (aY, kY) (nI n))) R (fun op used fz hd us sg pl sz fl lv tb ct aC aK aQ I => ?_)
  have h1 := I.1
  have heq := fun (k : Nat) (hk : k < 32) => db_hs_eq h1 hk hn
  have L : ∀ m k, k + m = 32 → ∃ r : Int32, (∀ post : Int32 → Prop, post r → wX_twin_12 post (nI n) (nI op) (nI used) fz (db_E hd) (db_N us) (db_N sg) (db_N pl) (db_N sz) aC (db_N fl) (db_N lv) (db_E tb) aK aQ (m + 1) (nI k)) ∧ (∀ post : Int32 → Prop, post r → wY_twin_12 post (nI n) aY kY (m + 1) (nI k)) := by
    intro m
    induction m with
    | zero =>
      intro k hk
      have : k = 32 := by omega
      subst this
      have h := nI_le (a := 32) (b := 32) (by omega) (by decide)
      exact ⟨-4, fun post K => br_t h K, fun post K => br_t h K⟩
    | succ m ih =>
      intro k hk
      have hk' : k < 32 := by omega
      have hg := nI_ge (b := 32) hk' (by decide)
      obtain ⟨r, hX, hY⟩ := ih (k + 1) (by omega)
      by_cases e : k = n
      · subst e
        exact ⟨r, fun post K => br_f hg (br_t rfl (nm_r (nI_1 k) (hX post K))), fun post K => br_f hg (br_t rfl (nm_r (nI_1 k) (hY post K)))⟩
      · have hne : ¬ nI k = nI n := fun z => e (db_inj (by omega) (by omega) z)
        have hvk : vp_in (nI k) 32 := vp_in_nI hk' (by decide)
        have hvn : vp_in (nI n) 32 := vp_in_nI hn (by decide)
        have eX : db_E hd (nI k).toNatClampNeg = db_E hd (nI n).toNatClampNeg ↔ con k = con n := by
          rw [db_Ecl hd (by omega), db_Ecl hd (by omega)]
          exact heq k hk'
        have eY : aY (nI k).toNatClampNeg = aY (nI n).toNatClampNeg ↔ con k = con n := by
          rw [nI_clamp (by omega), nI_clamp (by omega)]
          exact db_C_eq hC hk' hn
        by_cases ec : con k = con n
        · exact ⟨nI k, fun post K => br_f hg (br_f hne ⟨hvk, hvn, br_t (eX.mpr ec) K⟩), fun post K => br_f hg (br_f hne ⟨hvk, hvn, br_t (eY.mpr ec) K⟩)⟩
        · exact ⟨r, fun post K => br_f hg (br_f hne ⟨hvk, hvn, br_f (fun z => ec (eX.mp z)) (nm_r (nI_1 k) (hX post K))⟩), fun post K => br_f hg (br_f hne ⟨hvk, hvn, br_f (fun z => ec (eY.mp z)) (nm_r (nI_1 k) (hY post K))⟩)⟩
  obtain ⟨r, hX, hY⟩ := L 32 0 rfl
  refine ⟨r, fun post K => ?_, fun post K => ?_⟩
  · unfold wpX_twin
    dsimp only
    exact db_xB_t hn (br_t rfl ⟨33, hX post K⟩)
  · unfold wpY_twin
    dsimp only
    exact db_yB_t hn (br_f (by decide) ⟨33, hY post K⟩)
theorem db_xtwin_b {post : Int32 → Prop} {x : Int32} (hx : db_bd 32 x) (K : post (-1)) : wpX_twin post u x := by
  obtain ⟨fo, fu, fz, aH, aU, aS, aP, aZ, aC, aF, aL, aT, aK, aQ⟩ := u
  unfold wpX_twin
  dsimp only
  exact db_xB_b hx (br_f (by decide) K)
theorem db_ytwin_b {post : Int32 → Prop} {x : Int32} (hx : db_bd 32 x) (K : post (-1)) : wpY_twin post (aY, kY) x := by
  unfold wpY_twin
  dsimp only
  exact db_yB_b hx (br_t rfl K)
/-! favourite: both against what is best -/
def db_best (con : Nat → Nat) (S : Nat → Prop) (b : Int32) (m : Nat) : Prop :=
  (m = 0 ∧ b = -4 ∧ ∀ c, ¬ S c) ∨ (∃ c0, S c0 ∧ c0 < 4096 ∧ b = nI c0 ∧ m = db_ck 32 con c0 ∧ 0 < m ∧ ∀ c, S c → db_ck 32 con c < m ∨ (db_ck 32 con c = m ∧ c0 ≤ c))
variable {S S' : Nat → Prop} {b : Int32} {m c : Nat}
theorem db_best_c (h : db_best con S b m) (hS : ∀ c, S' c ↔ S c) : db_best con S' b m := by
  rcases h with ⟨h1, h2, h3⟩ | ⟨c0, h1, h2, h3, h4, h5, h6⟩
  · exact Or.inl ⟨h1, h2, fun c z => h3 c ((hS c).mp z)⟩
  · exact Or.inr ⟨c0, (hS c0).mpr h1, h2, h3, h4, h5, fun c z => h6 c ((hS c).mp z)⟩
theorem db_best_k (h : db_best con S b m) (hk : db_ck 32 con c < m) : db_best con (fun x => S x ∨ x = c) b m := by
  rcases h with ⟨h1, h2, h3⟩ | ⟨c0, h1, h2, h3, h4, h5, h6⟩
  · omega
  · refine Or.inr ⟨c0, Or.inl h1, h2, h3, h4, h5, fun x z => ?_⟩
    rcases z with z | z
    · exact h6 x z
    · rw [z]
      exact Or.inl hk
theorem db_best_r (h : db_best con S b m) (hc : c < 4096) (hk : m < db_ck 32 con c) : db_best con (fun x => S x ∨ x = c) (nI c) (db_ck 32 con c) := by
  refine Or.inr ⟨c, Or.inr rfl, hc, rfl, rfl, by omega, fun x z => ?_⟩
  rcases z with z | z
  · rcases h with ⟨h1, h2, h3⟩ | ⟨c0, h1, h2, h3, h4, h5, h6⟩
    · exact absurd z (h3 x)
    · have := h6 x z
      omega
  · rw [z]
    exact Or.inr ⟨rfl, Nat.le_refl _⟩
theorem db_best_e (h : db_best con S b m) (hc : c < 4096) (hk : db_ck 32 con c = m) (h0 : 0 < m) (hb : b ≤ nI c) : db_best con (fun x => S x ∨ x = c) b m := by
  rcases h with ⟨h1, h2, h3⟩ | ⟨c0, h1, h2, h3, h4, h5, h6⟩
  · omega
  · refine Or.inr ⟨c0, Or.inl h1, h2, h3, h4, h5, fun x z => ?_⟩
    rcases z with z | z
    · exact h6 x z
    · rw [z]
      refine Or.inr ⟨hk, ?_⟩
      rw [h3, nI_leI (by omega) (by omega)] at hb
      exact hb
theorem db_best_s (h : db_best con S b m) (hc : c < 4096) (hk : db_ck 32 con c = m) (h0 : 0 < m) (hb : ¬ b ≤ nI c) : db_best con (fun x => S x ∨ x = c) (nI c) (db_ck 32 con c) := by
  rcases h with ⟨h1, h2, h3⟩ | ⟨c0, h1, h2, h3, h4, h5, h6⟩
  · omega
  · rw [h3, nI_leI (by omega) (by omega)] at hb
    refine Or.inr ⟨c, Or.inr rfl, hc, rfl, rfl, by omega, fun x z => ?_⟩
    rcases z with z | z
    · have := h6 x z
      omega
    · rw [z]
      exact Or.inr ⟨rfl, Nat.le_refl _⟩
theorem db_best_u {b' : Int32} {m' : Nat} (h : db_best con S b m) (h' : db_best con S b' m') : b' = b := by
  rcases h with ⟨h1, h2, h3⟩ | ⟨c0, h1, h2, h3, h4, h5, h6⟩
  · rcases h' with ⟨_, g2, _⟩ | ⟨d0, g1, _⟩
    · rw [h2, g2]
    · exact absurd g1 (h3 d0)
  · rcases h' with ⟨_, _, g3⟩ | ⟨d0, g1, g2, g3, g4, g5, g6⟩
    · exact absurd h1 (g3 c0)
    · have a := h6 d0 g1
      have a' := g6 c0 h1
      have : d0 = c0 := by omega
      rw [h3, g3, this]
theorem db_xfav {post : Int32 → Prop} (R : db_R u con) (K : ∀ b m, db_best con (fun c => 0 < c ∧ 0 < db_ck 32 con c) b m → post b) : wpX_favourite post u := by
  refine db_R_e (P := fun u => wpX_favourite post u) R (fun op used fz hd us sg pl sz fl lv tb ct aC aK aQ I => ?_)
  obtain ⟨h1, h2, h3, h4, h5⟩ := I
  have L : ∀ (n p : Nat) (b : Int32) (m : Nat), p + n = 33 → m ≤ 32 → db_best con (fun c => ∃ q, q < p ∧ 0 < us q ∧ ct q = c) b m → wX_favourite_7 post (nI op) (nI used) fz (db_E hd) (db_N us) (db_N sg) (db_N pl) (db_N sz) aC (db_N fl) (db_N lv) (db_E tb) aK aQ (n + 1) b (nI m) (nI p) := by
    intro n
    induction n with
    | zero =>
      intro p b m hp hm hb
      have : p = 33 := by omega
      subst this
      refine br_t (nI_le (a := 33) (b := 33) (by omega) (by decide)) (K b m (db_best_c hb (fun c => ⟨fun z => db_hs_ex h1 z.1 z.2, fun z => ?_⟩)))
      obtain ⟨q, hq, hu, e⟩ := z
      rw [← e]
      refine ⟨(h1.2.2.1 q hq hu).1, ?_⟩
      rw [← db_hs_ck h1 hq hu]
      exact hu
    | succ n ih =>
      intro p b m hp hm hb
      have hp' : p < 33 := by omega
      have hus := db_hs_us h1 hp'
      have hv : vp_in (nI p) 33 := vp_in_nI hp' (by decide)
      have eu : db_N us (nI p).toNatClampNeg = nI (us p) := db_Ncl us (by omega)
      have skip : (us p = 0 ∨ db_best con (fun c => (∃ q, q < p ∧ 0 < us q ∧ ct q = c) ∨ c = ct p) b m) → wX_favourite_7 post (nI op) (nI used) fz (db_E hd) (db_N us) (db_N sg) (db_N pl) (db_N sz) aC (db_N fl) (db_N lv) (db_E tb) aK aQ (n + 1) b (nI m) (nI (p + 1)) := by
        intro hh
        by_cases h0 : us p = 0
        · refine ih (p + 1) b m (by omega) hm (db_best_c hb (fun c => ⟨fun z => ?_, fun z => ?_⟩))
          · obtain ⟨q, hq, hu, e⟩ := z
            have : q ≠ p := fun z => by
              rw [z] at hu
              omega
            exact ⟨q, by omega, hu, e⟩
          · obtain ⟨q, hq, hu, e⟩ := z
            exact ⟨q, by omega, hu, e⟩
        · have hh' : db_best con (fun c => (∃ q, q < p ∧ 0 < us q ∧ ct q = c) ∨ c = ct p) b m := by
            rcases hh with z | z
            · exact absurd z h0
            · exact z
          refine ih (p + 1) b m (by omega) hm (db_best_c hh' (fun c => ⟨fun z => ?_, fun z => ?_⟩))
          · obtain ⟨q, hq, hu, e⟩ := z
            by_cases eq : q = p
            · exact Or.inr (by rw [← e, eq])
            · exact Or.inl ⟨q, by omega, hu, e⟩
          · rcases z with ⟨q, hq, hu, e⟩ | z
            · exact ⟨q, by omega, hu, e⟩
            · exact ⟨p, by omega, by omega, z.symm⟩
      refine br_f (nI_ge (b := 33) hp' (by decide)) ⟨hv, ?_⟩
      rw [eu]
      by_cases h0 : us p = 0
      · have hs := skip (Or.inl h0)
        rw [h0]
        exact br_c (fun _ => nm_r (nI_1 p) hs) (fun _ => ⟨hv, br_t (Int32.le_refl _) (nm_r (nI_1 p) hs)⟩)
      · have hck := db_hs_ck h1 hp' (by omega)
        have hct := h1.2.2.1 p hp' (by omega)
        by_cases hlt : us p < m
        · exact br_t (nI_lt hlt (by omega)) (nm_r (nI_1 p) (skip (Or.inr (db_best_k hb (by omega)))))
        · refine br_f (nI_nlt (by omega) (by omega)) ⟨hv, br_f (by rw [db_le0 (by omega)]; exact h0) ?_⟩
          have repl : db_best con (fun c => (∃ q, q < p ∧ 0 < us q ∧ ct q = c) ∨ c = ct p) (nI (ct p)) (db_ck 32 con (ct p)) → wX_favourite_55 post (wX_favourite_7 post (nI op) (nI used) fz (db_E hd) (db_N us) (db_N sg) (db_N pl) (db_N sz) aC (db_N fl) (db_N lv) (db_E tb) aK aQ (n + 1)) (nI p) (nI (ct p)) (nI op) (nI used) fz (db_E hd) (db_N us) (db_N sg) (db_N pl) (db_N sz) aC (db_N fl) (db_N lv) (db_E tb) aK aQ := by
            intro hh
            rw [← hck] at hh
            refine ⟨hv, nm_r eu (nm_r (nI_1 p) (ih (p + 1) _ _ (by omega) (by omega) (db_best_c hh (fun c => ⟨fun z => ?_, fun z => ?_⟩))))⟩
            · obtain ⟨q, hq, hu, e⟩ := z
              by_cases eq : q = p
              · exact Or.inr (by rw [← e, eq])
              · exact Or.inl ⟨q, by omega, hu, e⟩
            · rcases z with ⟨q, hq, hu, e⟩ | z
              · exact ⟨q, by omega, hu, e⟩
              · exact ⟨p, by omega, by omega, z.symm⟩
          refine db_contentOf hp' rfl rfl (db_lg_st h3 hp' (db_lv_t.mpr (by omega))) ⟨hv, ?_⟩
          by_cases hgt : m < us p
          · exact br_t (nI_lt hgt (by omega)) (repl (db_best_r hb hct.2 (by omega)))
          · refine br_f (nI_nlt (by omega) (by omega)) ?_
            by_cases hbc : b ≤ nI (ct p)
            · exact br_t hbc (nm_r (nI_1 p) (skip (Or.inr (db_best_e hb hct.2 (by omega) (by omega) hbc))))
            · exact br_f hbc (repl (db_best_s hb hct.2 (by omega) (by omega) hbc))
  exact ⟨34, L 33 0 (-4) 0 rfl (by omega) (Or.inl ⟨rfl, rfl, fun c z => by
    obtain ⟨q, hq, _⟩ := z
    omega⟩)⟩
theorem db_yfav {post : Int32 → Prop} (hC : db_C aY con) (K : ∀ b m, db_best con (fun c => 0 < c ∧ 0 < db_ck 32 con c) b m → post b) : wpY_favourite post (aY, kY) := by
  have L : ∀ (n k : Nat) (b : Int32) (m : Nat), k + n = 32 → m ≤ 32 → db_best con (fun c => 0 < c ∧ ∃ j, j < k ∧ con j = c) b m → wY_favourite_7 post aY kY (n + 1) b (nI m) (nI k) := by
    intro n
    induction n with
    | zero =>
      intro k b m hk hm hb
      have : k = 32 := by omega
      subst this
      refine br_t (nI_le (a := 32) (b := 32) (by omega) (by decide)) (K b m (db_best_c hb (fun c => ?_)))
      rw [db_ck_pos]
    | succ n ih =>
      intro k b m hk hm hb
      have hk' : k < 32 := by omega
      have hck := (hC k hk').2
      have hle := db_ck_le con (con k) 32
      have ext : ∀ (b' : Int32) (m' : Nat), 0 < con k → db_best con (fun c => (0 < c ∧ ∃ j, j < k ∧ con j = c) ∨ c = con k) b' m' → db_best con (fun c => 0 < c ∧ ∃ j, j < k + 1 ∧ con j = c) b' m' := by
        intro b' m' h0 hh
        refine db_best_c hh (fun c => ⟨fun z => ?_, fun z => ?_⟩)
        · obtain ⟨z0, j, hj, e⟩ := z
          by_cases ej : j = k
          · exact Or.inr (by rw [← e, ej])
          · exact Or.inl ⟨z0, j, by omega, e⟩
        · rcases z with ⟨z0, j, hj, e⟩ | z
          · exact ⟨z0, j, by omega, e⟩
          · exact ⟨by omega, k, by omega, z.symm⟩
      refine br_f (nI_ge (b := 32) hk' (by decide)) ⟨vp_in_nI hk' (by decide), nm_r (db_C_at hC hk') (db_ycount hC hck ?_)⟩
      rw [db_eq0 (by omega)]
      by_cases h0 : con k = 0
      · refine br_t h0 (nm_r (nI_1 k) (ih (k + 1) b m (by omega) hm (db_best_c hb (fun c => ⟨fun z => ?_, fun z => ?_⟩))))
        · obtain ⟨z0, j, hj, e⟩ := z
          have : j ≠ k := fun w => by
            rw [w] at e
            omega
          exact ⟨z0, j, by omega, e⟩
        · obtain ⟨z0, j, hj, e⟩ := z
          exact ⟨z0, j, by omega, e⟩
      · refine br_f h0 ?_
        by_cases hgt : m < db_ck 32 con (con k)
        · exact br_t (nI_lt hgt (by omega)) (nm_r (nI_1 k) (ih (k + 1) _ _ (by omega) hle (ext _ _ (by omega) (db_best_r hb hck hgt))))
        · refine br_f (nI_nlt (by omega) (by omega)) ?_
          rw [nI_eq (by omega) (by omega)]
          by_cases heq : db_ck 32 con (con k) = m
          · have hpos : 0 < db_ck 32 con (con k) := db_ck_pos.mpr ⟨k, hk', rfl⟩
            refine br_t heq ?_
            by_cases hbc : b ≤ nI (con k)
            · exact br_t hbc (nm_r (nI_1 k) (ih (k + 1) b m (by omega) hm (ext _ _ (by omega) (db_best_e hb hck heq (by omega) hbc))))
            · exact br_f hbc (nm_r (nI_1 k) (ih (k + 1) _ _ (by omega) hle (ext _ _ (by omega) (db_best_s hb hck heq (by omega) hbc))))
          · exact br_f heq (nm_r (nI_1 k) (ih (k + 1) b m (by omega) hm (ext _ _ (by omega) (db_best_k hb (by omega)))))
  exact ⟨33, L 32 0 (-4) 0 rfl (by omega) (Or.inl ⟨rfl, rfl, fun c z => by
    obtain ⟨_, j, hj, _⟩ := z
    omega⟩)⟩
end
end
section
section
variable {fo fu fz : Int32} {aH aU aS aP aZ aC aF aL aT aK aQ : Nat → Int32}
variable {con hd us ct sg pl sz fl lv tb : Nat → Nat} {op used : Nat} {aY kY : Nat → Int32} {u : SX}
/-! erase -/
def db_er (v : Nat) (con : Nat → Nat) : Nat → (Nat → Nat)
  | 0 => con
  | b + 1 => db_up (db_er v con b) (8 * v + b) 0
theorem db_er_s (v : Nat) (con : Nat → Nat) (b : Nat) : db_er v con (b + 1) = db_up (db_er v con b) (8 * v + b) 0 := rfl
def db_ec (v : Nat) (con : Nat → Nat) : Nat → Nat
  | 0 => 0
  | b + 1 => db_ec v con b + (if db_er v con b (8 * v + b) = 0 then 0 else 1)
theorem db_ec_s (v : Nat) (con : Nat → Nat) (b : Nat) : db_ec v con (b + 1) = db_ec v con b + (if db_er v con b (8 * v + b) = 0 then 0 else 1) := rfl
theorem db_v8 (v : Nat) : nI v * 8 = nI (8 * v) := by
  rw [show nI v * 8 = nI (v * 8) from pk_mul v 8, Nat.mul_comm]
theorem db_v88 (v : Nat) : nI v * 8 + 8 = nI (8 * v + 8) := by
  rw [db_v8]
  exact nI_add (8 * v) 8
theorem db_8v8 (v : Nat) : 8 * nI v + 8 = nI (8 * v + 8) := by
  rw [show 8 * nI v = nI (8 * v) from pk_mul 8 v]
  exact nI_add (8 * v) 8
theorem db_8v (v : Nat) : 8 * nI v = nI (8 * v) := pk_mul 8 v
theorem db_yerase {post : Int32 → SY → Prop} {v : Nat} (hv : v < 4) (hC : db_C aY con) (K : ∀ a, db_C a (db_er v con 8) → post (nI (db_ec v con 8)) (a, kY)) : wpY_erase post (aY, kY) (nI v) := by
  have L : ∀ (m b : Nat) (a : Nat → Int32), b + m = 8 → db_C a (db_er v con b) → wY_erase_17 post (nI v) (m + 1) (nI (db_ec v con b)) (nI (8 * v + b)) a kY := by
    intro m
    induction m with
    | zero =>
      intro b a hb hC
      have : b = 8 := by omega
      subst this
      refine br_t ?_ (K a hC)
      rw [db_8v8]
      exact Int32.le_refl _
    | succ m ih =>
      intro b a hb hC
      have hk : 8 * v + b < 32 := by omega
      have hvp : vp_in (nI (8 * v + b)) 32 := vp_in_nI hk (by decide)
      have eu : upd a (nI (8 * v + b)).toNatClampNeg 0 = upd a (8 * v + b) (nI 0) := by
        rw [nI_clamp (by omega)]
        rfl
      have ih' := ih (b + 1) (upd a (8 * v + b) (nI 0)) (by omega) (db_C_up hC (by omega))
      rw [db_ec_s] at ih'
      refine br_f ?_ ⟨hvp, ?_⟩
      · rw [db_8v8]
        exact nI_ge (b := 8 * v + 8) (by omega) (by omega)
      · rw [db_C_at hC hk, db_eq0 (by have := (hC _ hk).2; omega)]
        by_cases h0 : db_er v con b (8 * v + b) = 0
        · rw [if_pos h0] at ih'
          exact br_t h0 ⟨hvp, nm_r eu (nm_r (nI_1 _) ih')⟩
        · rw [if_neg h0, ← nI_1 (db_ec v con b)] at ih'
          exact br_f h0 ⟨hvp, nm_r eu (nm_r (nI_1 _) ih')⟩
  unfold wpY_erase
  dsimp only
  exact db_yV_t hv (br_f (by decide) (nm_r (db_8v v) ⟨9, L 8 0 aY rfl hC⟩))
theorem db_yerase_b {post : Int32 → SY → Prop} {x : Int32} (hx : db_bd 4 x) (K : post (-1) (aY, kY)) : wpY_erase post (aY, kY) x := by
  unfold wpY_erase
  dsimp only
  exact db_yV_b hx (br_t rfl K)
theorem db_xerase {post : Int32 → SX → Prop} {v : Nat} (hv : v < 4) (R : db_R u con) (K : ∀ u', db_R u' (db_er v con 8) → post (nI (db_ec v con 8)) u') : wpX_erase post u (nI v) := by
  have L : ∀ (m b op used : Nat) (fz : Int32) (hd us sg pl sz fl lv tb ct : Nat → Nat) (aC aK aQ : Nat → Int32), b + m = 8 → db_inv (db_er v con b) hd us ct sg pl sz fl lv tb aC op used →
      wX_erase_17 post (nI v) (m + 1) (nI (db_ec v con b)) (nI (8 * v + b)) (nI op) (nI used) fz (db_E hd) (db_N us) (db_N sg) (db_N pl) (db_N sz) aC (db_N fl) (db_N lv) (db_E tb) aK aQ := by
    intro m
    induction m with
    | zero =>
      intro b op used fz hd us sg pl sz fl lv tb ct aC aK aQ hb I
      have : b = 8 := by omega
      subst this
      refine br_t ?_ (K _ (db_R_i I))
      rw [db_v88]
      exact Int32.le_refl _
    | succ m ih =>
      intro b op used fz hd us sg pl sz fl lv tb ct aC aK aQ hb I
      have hk : 8 * v + b < 32 := by omega
      have hvp : vp_in (nI (8 * v + b)) 32 := vp_in_nI hk (by decide)
      refine br_f ?_ ⟨hvp, ?_⟩
      · rw [db_v88]
        exact nI_ge (b := 8 * v + 8) (by omega) (by omega)
      · rw [db_Ecl hd (by omega)]
        rcases I.1.1 _ hk with ⟨e0, e1⟩ | ⟨e0, e1, e2⟩
        · refine br_t (db_e_neg (by omega)) ?_
          unfold wX_erase_40
          refine db_release I hk (fun hd' us' lv' tb' used' I' => ?_)
          have ih' := ih (b + 1) op used' fz hd' us' sg pl sz fl lv' tb' ct aC aK aQ (by omega) I'
          rw [db_ec_s, if_pos e0] at ih'
          exact nm_r (nI_1 _) ih'
        · refine br_f (db_e_nneg e1) (nm_r (nI_1 _) ?_)
          unfold wX_erase_40
          refine db_release I hk (fun hd' us' lv' tb' used' I' => ?_)
          have ih' := ih (b + 1) op used' fz hd' us' sg pl sz fl lv' tb' ct aC aK aQ (by omega) I'
          rw [db_ec_s, if_neg (by omega)] at ih'
          exact nm_r (nI_1 _) ih'
  refine db_R_e (P := fun u => wpX_erase post u (nI v)) R (fun op used fz hd us sg pl sz fl lv tb ct aC aK aQ I => ?_)
  unfold wpX_erase
  dsimp only
  exact db_xV_t hv (br_t rfl (nm_r (db_v8 v) ⟨9, L 8 0 op used fz hd us sg pl sz fl lv tb ct aC aK aQ rfl I⟩))
theorem db_xerase_b {post : Int32 → SX → Prop} {x : Int32} (hx : db_bd 4 x) (K : post (-1) u) : wpX_erase post u x := by
  obtain ⟨fo, fu, fz, aH, aU, aS, aP, aZ, aC, aF, aL, aT, aK, aQ⟩ := u
  unfold wpX_erase
  dsimp only
  exact db_xV_b hx (br_f (by decide) K)
/-! aloneIn -/
def db_hc (a : Nat → Nat) (v c : Nat) : Nat := db_sm 8 (fun b => if a (8 * v + b) = c then 1 else 0)
theorem db_er_o {v b j : Nat} (h : j < 8 * v ∨ 8 * v + b ≤ j) : db_er v con b j = con j := by
  induction b with
  | zero => rfl
  | succ b ih =>
    rw [db_er_s, db_un (by omega)]
    exact ih (by omega)
theorem db_er_ck {v c : Nat} (hv : v < 4) (hc : 0 < c) : ∀ b, b ≤ 8 → db_ck 32 (db_er v con b) c + db_sm b (fun b => if con (8 * v + b) = c then 1 else 0) = db_ck 32 con c := by
  intro b
  induction b with
  | zero => exact fun _ => rfl
  | succ b ih =>
    intro hb
    have h1 := ih (by omega)
    have h2 := db_ck_u (k := 32) (n := 8 * v + b) (x := 0) (c := c) (a := db_er v con b) (by omega)
    rw [if_neg (show ¬ 0 = c by omega), db_er_o (by omega)] at h2
    rw [db_er_s, db_sm_s]
    omega
def db_W (con : Nat → Nat) (v c : Nat) : Nat := if 0 < db_hc con v c ∧ db_hc con v c = db_ck 32 con c then db_rm c else 0
def db_ai (con : Nat → Nat) (v : Nat) : Nat := db_sm 4096 (fun c => if 0 < c ∧ 0 < db_ck 32 con c then db_W con v c else 0)
theorem db_ai_U {v : Nat} (hv : v < 4) : db_U con = db_U (db_er v con 8) + db_ai con v := by
  unfold db_U db_ai
  rw [← db_sm_add]
  refine db_sm_c 4096 (fun c _ => ?_)
  show (if 0 < db_ck 32 con c then db_rm c else 0) = (if 0 < db_ck 32 (db_er v con 8) c then db_rm c else 0) + (if 0 < c ∧ 0 < db_ck 32 con c then db_W con v c else 0)
  by_cases h0 : c = 0
  · rw [h0, db_rm_0, ite_self, ite_self, if_neg (fun z => absurd z.1 (Nat.lt_irrefl 0))]
  · have hk := db_er_ck (con := con) (v := v) (c := c) hv (by omega) 8 (by omega)
    have hh : db_sm 8 (fun b => if con (8 * v + b) = c then 1 else 0) = db_hc con v c := rfl
    rw [hh] at hk
    unfold db_W
    by_cases h1 : 0 < db_ck 32 con c
    · rw [if_pos h1, if_pos (show 0 < c ∧ 0 < db_ck 32 con c from ⟨by omega, h1⟩)]
      by_cases h2 : 0 < db_ck 32 (db_er v con 8) c
      · rw [if_pos h2, if_neg (by omega), Nat.add_zero]
      · rw [if_neg h2, if_pos (by omega), Nat.zero_add]
    · rw [if_neg h1, if_neg (show ¬ (0 < c ∧ 0 < db_ck 32 con c) from fun z => h1 z.2), if_neg (show ¬ 0 < db_ck 32 (db_er v con 8) c by omega)]
theorem db_xaloneIn {post : Int32 → Prop} {v : Nat} (hv : v < 4) (R : db_R u con) (K : post (nI (db_ai con v))) : wpX_aloneIn post u (nI v) := by
  refine db_R_e (P := fun u => wpX_aloneIn post u (nI v)) R (fun op used fz hd us sg pl sz fl lv tb ct aC aK aQ I => ?_)
  obtain ⟨h1, h2, h3, h4, h5⟩ := I
  have hle : ∀ p, db_hc hd v p ≤ 8 := fun p => by
    have := db_sm_b (f := fun b => if hd (8 * v + b) = p then 1 else 0) (b := 1) 8 (fun i _ => by
      show (if hd (8 * v + i) = p then 1 else 0) ≤ 1
      split <;> omega)
    unfold db_hc
    omega
  have e : db_sm 33 (fun p => if 0 < db_hc hd v p ∧ db_hc hd v p = us p then sz p else 0) = db_ai con v := by
    have e1 : db_sm 33 (fun p => if 0 < db_hc hd v p ∧ db_hc hd v p = us p then sz p else 0) = db_sm 33 (fun p => if 0 < us p then db_W con v (ct p) else 0) := by
      refine db_sm_c 33 (fun p hp => ?_)
      show (if 0 < db_hc hd v p ∧ db_hc hd v p = us p then sz p else 0) = (if 0 < us p then db_W con v (ct p) else 0)
      by_cases h : 0 < us p
      · rw [if_pos h]
        have hct := h1.2.2.1 p hp h
        have eh : db_hc hd v p = db_hc con v (ct p) := by
          refine db_sm_c 8 (fun b hb => ?_)
          have hn : 8 * v + b < 32 := by omega
          show (if hd (8 * v + b) = p then 1 else 0) = (if con (8 * v + b) = ct p then 1 else 0)
          refine db_ifc ?_
          rcases h1.1 _ hn with ⟨a0, a1⟩ | ⟨a0, a1, a2⟩
          · constructor
            · intro z
              omega
            · intro z
              omega
          · constructor
            · intro z
              rw [← a2, z]
            · intro z
              exact h1.2.2.2 _ _ a1 hp (db_hs_live h1 hn a1) h (a2.trans z)
        unfold db_W
        rw [eh, (h3.2.2.1 p hp (db_lv_t.mpr h)).2.2.2.1, ← db_hs_ck h1 hp h, db_rm_p hct.1]
      · rw [if_neg h, if_neg (by omega)]
    exact e1.trans (db_hs_tr h1 (db_W con v))
  have L : ∀ m p, p + m = 33 → wX_aloneIn_14 post (nI v) (nI op) (nI used) fz (db_E hd) (db_N us) (db_N sg) (db_N pl) (db_N sz) aC (db_N fl) (db_N lv) (db_E tb) aK aQ (m + 1) (nI (db_sm p (fun p => if 0 < db_hc hd v p ∧ db_hc hd v p = us p then sz p else 0))) (nI p) := by
    intro m
    induction m with
    | zero =>
      intro p hp
      have : p = 33 := by omega
      subst this
      rw [e]
      exact br_t (nI_le (a := 33) (b := 33) (by omega) (by decide)) K
    | succ m ih =>
      intro p hp
      have hp' : p < 33 := by omega
      have hvp : vp_in (nI p) 33 := vp_in_nI hp' (by decide)
      have hus := db_hs_us h1 hp'
      have ih' := ih (p + 1) (by omega)
      rw [db_sm_s] at ih'
      have L2 : ∀ d b, b + d = 8 → wX_aloneIn_26 post (wX_aloneIn_14 post (nI v) (nI op) (nI used) fz (db_E hd) (db_N us) (db_N sg) (db_N pl) (db_N sz) aC (db_N fl) (db_N lv) (db_E tb) aK aQ (m + 1)) (nI v) (nI (db_sm p (fun p => if 0 < db_hc hd v p ∧ db_hc hd v p = us p then sz p else 0))) (nI p) (nI op) (nI used) fz (db_E hd) (db_N us) (db_N sg) (db_N pl) (db_N sz) aC (db_N fl) (db_N lv) (db_E tb) aK aQ (d + 1) (nI (db_sm b (fun b => if hd (8 * v + b) = p then 1 else 0))) (nI b) := by
        intro d
        induction d with
        | zero =>
          intro b hb
          have : b = 8 := by omega
          subst this
          have h8 : db_sm 8 (fun b => if hd (8 * v + b) = p then 1 else 0) = db_hc hd v p := rfl
          have hle' := hle p
          rw [h8]
          refine br_t (nI_le (a := 8) (b := 8) (by omega) (by decide)) ?_
          rw [db_le0 (by omega), db_Ncl us (by omega), db_Ncl sz (by omega), nI_eq (by omega) (by omega)]
          by_cases z0 : db_hc hd v p = 0
          · rw [if_neg (by omega)] at ih'
            exact br_t z0 (nm_r (nI_1 p) ih')
          · refine br_f z0 ⟨hvp, ?_⟩
            by_cases z1 : db_hc hd v p = us p
            · rw [if_pos (show 0 < db_hc hd v p ∧ db_hc hd v p = us p from ⟨by omega, z1⟩)] at ih'
              exact br_t z1 ⟨hvp, nm_r (nI_add _ _) (nm_r (nI_1 p) ih')⟩
            · rw [if_neg (show ¬ (0 < db_hc hd v p ∧ db_hc hd v p = us p) from fun z => z1 z.2)] at ih'
              exact br_f z1 (nm_r (nI_1 p) ih')
        | succ d ihd =>
          intro b hb
          have ea : nI v * 8 + nI b = nI (8 * v + b) := by
            rw [db_v8, nI_add]
          have ihd' := ihd (b + 1) (by omega)
          rw [db_sm_s] at ihd'
          have eqp : db_e (hd (8 * v + b)) = nI p ↔ hd (8 * v + b) = p := by
            rw [← db_e_p hp']
            exact ⟨fun z => (db_e_inj hp' z.symm).symm, fun z => by rw [z]⟩
          refine br_f (nI_ge (b := 8) (by omega) (by decide)) ⟨?_, ?_⟩
          · rw [ea]
            exact vp_in_nI (by omega) (by decide)
          · rw [ea, db_Ecl hd (by omega), eqp]
            by_cases z : hd (8 * v + b) = p
            · rw [if_pos z] at ihd'
              exact br_t z (nm_r (nI_1 _) (nm_r (nI_1 b) ihd'))
            · rw [if_neg z] at ihd'
              exact br_f z (nm_r (nI_1 b) ihd')
      exact br_f (nI_ge (b := 33) hp' (by decide)) ⟨9, L2 8 0 rfl⟩
  unfold wpX_aloneIn
  dsimp only
  exact db_xV_t hv (br_t rfl ⟨34, L 33 0 rfl⟩)
theorem db_xaloneIn_b {post : Int32 → Prop} {x : Int32} (hx : db_bd 4 x) (K : post (-1)) : wpX_aloneIn post u x := by
  obtain ⟨fo, fu, fz, aH, aU, aS, aP, aZ, aC, aF, aL, aT, aK, aQ⟩ := u
  unfold wpX_aloneIn
  dsimp only
  exact db_xV_b hx (br_f (by decide) K)
theorem db_yaloneIn {post : Int32 → SY → Prop} {v : Nat} (hv : v < 4) (hC : db_C aY con) (K : ∀ a k, db_C a con → post (nI (db_ai con v)) (a, k)) : wpY_aloneIn post (aY, kY) (nI v) := by
  unfold wpY_aloneIn
  dsimp only
  refine db_yV_t hv (br_f (by decide) (db_yused hC (db_ykeep (fun k hk => ?_))))
  refine db_yerase hv hC (fun a hCa => ?_)
  refine db_yused hCa ?_
  have hk' := db_C_k hC hk
  have L : ∀ (m n : Nat) (a : Nat → Int32), n + m = 32 → (∀ j, j < n → a j = k j) → wY_aloneIn_33 post (nI (db_U con)) (nI (db_U (db_er v con 8))) (m + 1) (nI n) a k := by
    intro m
    induction m with
    | zero =>
      intro n a hn h'
      have : n = 32 := by omega
      subst this
      refine br_t (nI_le (a := 32) (b := 32) (by omega) (by decide)) ?_
      have hU := db_ai_U (con := con) hv
      have e : nI (db_U con) - nI (db_U (db_er v con 8)) = nI (db_ai con v) := by
        rw [hU, pk_sub (Nat.le_add_right _ _), Nat.add_sub_cancel_left]
      rw [e]
      exact K a k (db_C_k hk' h')
    | succ m ih =>
      intro n a hn h'
      have hvp : vp_in (nI n) 32 := vp_in_nI (by omega) (by decide)
      refine br_f (nI_ge (b := 32) (by omega) (by decide)) ⟨hvp, hvp, nm_r (e' := upd a n (k n)) (by rw [nI_clamp (by omega)]) (nm_r (nI_1 n) (ih (n + 1) _ (by omega) (fun j hj => ?_)))⟩
      by_cases e : j = n
      · rw [e, pk_us]
      · rw [pk_un e]
        exact h' j (by omega)
  exact ⟨33, L 32 0 a rfl (fun j hj => absurd hj (Nat.not_lt_zero _))⟩
theorem db_yaloneIn_b {post : Int32 → SY → Prop} {x : Int32} (hx : db_bd 4 x) (K : post (-1) (aY, kY)) : wpY_aloneIn post (aY, kY) x := by
  unfold wpY_aloneIn
  dsimp only
  exact db_yV_b hx (br_t rfl K)
end
end
section
section
variable {fo fu fz : Int32} {aH aU aS aP aZ aC aF aL aT aK aQ : Nat → Int32}
variable {con hd us ct sg pl sz fl lv tb : Nat → Nat} {op used : Nat} {aY kY : Nat → Int32} {u : SX}
theorem db_R_con {n : Nat} (R : db_R u con) (hn : n < 32) : con n < 4096 :=
  db_R_e (P := fun _ => con n < 4096) R (fun op used fz hd us sg pl sz fl lv tb ct aC aK aQ I => db_hs_con I.1 hn)
/-! clone -/
def db_cl (v w : Nat) (con : Nat → Nat) : Nat → (Nat → Nat)
  | 0 => con
  | b + 1 => db_up (db_cl v w con b) (8 * v + b) (con (8 * w + b))
theorem db_cl_s (v w : Nat) (con : Nat → Nat) (b : Nat) : db_cl v w con (b + 1) = db_up (db_cl v w con b) (8 * v + b) (con (8 * w + b)) := rfl
def db_cc (v w : Nat) (con : Nat → Nat) : Nat → Nat
  | 0 => 0
  | b + 1 => db_cc v w con b + (if con (8 * v + b) = con (8 * w + b) then 0 else 1)
theorem db_cc_s (v w : Nat) (con : Nat → Nat) (b : Nat) : db_cc v w con (b + 1) = db_cc v w con b + (if con (8 * v + b) = con (8 * w + b) then 0 else 1) := rfl
theorem db_cl_o {v w b j : Nat} (h : j < 8 * v ∨ 8 * v + b ≤ j) : db_cl v w con b j = con j := by
  induction b with
  | zero => rfl
  | succ b ih =>
    rw [db_cl_s, db_un (by omega)]
    exact ih (by omega)
theorem db_xclone {post : Int32 → SX → Prop} {v w : Nat} (hv : v < 4) (hw : w < 4) (R : db_R u con) (K : ∀ u', db_R u' (db_cl v w con 8) → post (nI (db_cc v w con 8)) u') : wpX_clone post u (nI v) (nI w) := by
  have L : ∀ (m b op used : Nat) (fz : Int32) (hd us sg pl sz fl lv tb ct : Nat → Nat) (aC aK aQ : Nat → Int32), b + m = 8 → db_inv (db_cl v w con b) hd us ct sg pl sz fl lv tb aC op used →
      wX_clone_23 post (nI v) (nI w) (m + 1) (nI (db_cc v w con b)) (nI b) (nI op) (nI used) fz (db_E hd) (db_N us) (db_N sg) (db_N pl) (db_N sz) aC (db_N fl) (db_N lv) (db_E tb) aK aQ := by
    intro m
    induction m with
    | zero =>
      intro b op used fz hd us sg pl sz fl lv tb ct aC aK aQ hb I
      have : b = 8 := by omega
      subst this
      exact br_t (nI_le (a := 8) (b := 8) (by omega) (by decide)) (K _ (db_R_i I))
    | succ m ih =>
      intro b op used fz hd us sg pl sz fl lv tb ct aC aK aQ hb I
      have hkv : 8 * v + b < 32 := by omega
      have hkw : 8 * w + b < 32 := by omega
      have ev : nI v * 8 + nI b = nI (8 * v + b) := by
        rw [db_v8, nI_add]
      have ew : nI w * 8 + nI b = nI (8 * w + b) := by
        rw [db_v8, nI_add]
      have cv : db_cl v w con b (8 * v + b) = con (8 * v + b) := db_cl_o (by omega)
      have cw : db_cl v w con b (8 * w + b) = con (8 * w + b) := db_cl_o (by omega)
      have hvv : vp_in (nI (8 * v + b)) 32 := vp_in_nI hkv (by decide)
      have hvw : vp_in (nI (8 * w + b)) 32 := vp_in_nI hkw (by decide)
      have heq := db_hs_eq I.1 hkv hkw
      rw [cv, cw] at heq
      refine br_f (nI_ge (b := 8) (by omega) (by decide)) ?_
      rw [ev, ew]
      refine ⟨hvv, hvw, ?_⟩
      have eq2 : db_E hd (nI (8 * v + b)).toNatClampNeg = db_E hd (nI (8 * w + b)).toNatClampNeg ↔ con (8 * v + b) = con (8 * w + b) := by
        rw [db_Ecl hd (by omega), db_Ecl hd (by omega)]
        exact heq
      by_cases e : con (8 * v + b) = con (8 * w + b)
      · have es : db_cl v w con (b + 1) = db_cl v w con b := by
          rw [db_cl_s]
          exact db_up_self (cv.trans e)
        have ih' := ih (b + 1) op used fz hd us sg pl sz fl lv tb ct aC aK aQ (by omega) (by rw [es]; exact I)
        rw [db_cc_s, if_pos e] at ih'
        exact br_t (eq2.mpr e) (nm_r (nI_1 b) ih')
      · refine br_f (fun z => e (eq2.mp z)) ⟨hvw, db_rd I hkw ?_⟩
        rw [cw]
        have hpre : 0 < db_ck 32 (db_up (db_cl v w con b) (8 * v + b) 0) (con (8 * w + b)) := by
          refine db_ck_pos.mpr ⟨8 * w + b, hkw, ?_⟩
          rw [db_un ?_]
          · exact cw
          · intro z
            exact e (by rw [z])
        refine db_hold (db_R_i I) hkv (by have := db_hs_con I.1 hkw; omega) (Or.inr (Or.inl hpre)) (fun u' R' => ?_)
        obtain ⟨op, used, fz, hd, us, sg, pl, sz, fl, lv, tb, ct, aC, aK, aQ, rfl, I'⟩ := R'
        have ih' := ih (b + 1) op used fz hd us sg pl sz fl lv tb ct aC aK aQ (by omega) I'
        rw [db_cc_s, if_neg e] at ih'
        exact nm_r (nI_1 _) (nm_r (nI_1 b) ih')
  refine db_R_e (P := fun u => wpX_clone post u (nI v) (nI w)) R (fun op used fz hd us sg pl sz fl lv tb ct aC aK aQ I => ?_)
  unfold wpX_clone
  dsimp only
  refine db_xV_t hv (br_t rfl ?_)
  exact db_xV_t hw (br_t rfl ⟨9, L 8 0 op used fz hd us sg pl sz fl lv tb ct aC aK aQ rfl I⟩)
theorem db_xclone_b {post : Int32 → SX → Prop} {x y : Int32} (hx : db_bd 4 x ∨ (∃ v, v < 4 ∧ x = nI v) ∧ db_bd 4 y) (K : post (-1) u) : wpX_clone post u x y := by
  obtain ⟨fo, fu, fz, aH, aU, aS, aP, aZ, aC, aF, aL, aT, aK, aQ⟩ := u
  unfold wpX_clone
  dsimp only
  rcases hx with h | ⟨⟨v, hv, rfl⟩, h⟩
  · exact db_xV_b h (br_f (by decide) K)
  · exact db_xV_t hv (br_t rfl (db_xV_b h (br_f (by decide) K)))
theorem db_yclone_b {post : Int32 → SY → Prop} {x y : Int32} (hx : db_bd 4 x ∨ (∃ v, v < 4 ∧ x = nI v) ∧ db_bd 4 y) (K : post (-1) (aY, kY)) : wpY_clone post (aY, kY) x y := by
  unfold wpY_clone
  dsimp only
  rcases hx with h | ⟨⟨v, hv, rfl⟩, h⟩
  · exact db_yV_b h (br_t rfl K)
  · exact db_yV_t hv (br_f (by decide) (db_yV_b h (br_t rfl K)))
theorem db_yclone {post : Int32 → SY → Prop} {v w : Nat} (hv : v < 4) (hw : w < 4) (hC : db_C aY con) (hU : db_U (db_cl v w con 8) ≤ 48) (K : ∀ a k, db_C a (db_cl v w con 8) → post (nI (db_cc v w con 8)) (a, k)) : wpY_clone post (aY, kY) (nI v) (nI w) := by
  unfold wpY_clone
  dsimp only
  refine db_yV_t hv (br_f (by decide) ?_)
  refine db_yV_t hw (br_f (by decide) ?_)
  refine db_ykeep (fun k hk => ?_)
  have hk' := db_C_k hC hk
  have L : ∀ (m b : Nat) (a : Nat → Int32), b + m = 8 → db_C a (db_cl v w con b) → wY_clone_27 post (nI v) (nI w) (m + 1) (nI (db_cc v w con b)) (nI b) a k := by
    intro m
    induction m with
    | zero =>
      intro b a hb hCa
      have : b = 8 := by omega
      subst this
      refine br_t (nI_le (a := 8) (b := 8) (by omega) (by decide)) ?_
      refine db_yfull hCa hk' (fun _ => br_t rfl (K a k hCa)) (fun z => absurd z (by omega))
    | succ m ih =>
      intro b a hb hCa
      have hkv : 8 * v + b < 32 := by omega
      have hkw : 8 * w + b < 32 := by omega
      have ev : 8 * nI v + nI b = nI (8 * v + b) := by
        rw [db_8v, nI_add]
      have ew : 8 * nI w + nI b = nI (8 * w + b) := by
        rw [db_8v, nI_add]
      have hvv : vp_in (nI (8 * v + b)) 32 := vp_in_nI hkv (by decide)
      have hvw : vp_in (nI (8 * w + b)) 32 := vp_in_nI hkw (by decide)
      have c1 := (hC _ hkv).2
      have c2 := (hC _ hkw).2
      have ih' := ih (b + 1) (upd a (8 * v + b) (nI (con (8 * w + b)))) (by omega) (db_C_up hCa c2)
      rw [db_cc_s] at ih'
      refine br_f (nI_ge (b := 8) (by omega) (by decide)) ?_
      rw [ev, ew]
      refine ⟨hvw, hvv, nm_r (e' := upd a (8 * v + b) (nI (con (8 * w + b)))) ?_ ⟨hvv, hvw, ?_⟩⟩
      · rw [db_C_at hk' hkw, nI_clamp (by omega)]
      · rw [db_C_at hk' hkv, db_C_at hk' hkw, nI_eq (by omega) (by omega)]
        by_cases e : con (8 * v + b) = con (8 * w + b)
        · rw [if_pos e] at ih'
          exact br_t e (nm_r (nI_1 b) ih')
        · rw [if_neg e] at ih'
          exact br_f e (nm_r (nI_1 _) (nm_r (nI_1 b) ih'))
  exact ⟨9, L 8 0 aY rfl hC⟩
/-! spread -/
def db_sp (n x : Nat) (con : Nat → Nat) : Nat → (Nat → Nat)
  | 0 => con
  | j + 1 => db_up (db_sp n x con j) (n + j) x
theorem db_sp_s (n x : Nat) (con : Nat → Nat) (j : Nat) : db_sp n x con (j + 1) = db_up (db_sp n x con j) (n + j) x := rfl
theorem db_sp_k {n x m j : Nat} (h : con m = x) : db_sp n x con j m = x := by
  induction j with
  | zero => exact h
  | succ j ih =>
    rw [db_sp_s]
    by_cases e : m = n + j
    · rw [e, db_us]
    · rw [db_un e]
      exact ih
theorem db_stop (n t : Nat) : ∃ J, J ≤ t ∧ (∀ j, j < J → (n + j) / 8 = n / 8) ∧ (J = t ∨ (n + J) / 8 ≠ n / 8) := by
  obtain ⟨J, h1, h2⟩ := pk_least (fun j => j = t ∨ (n + j) / 8 ≠ n / 8) ⟨t, Or.inl rfl⟩
  have a : J ≤ t := by
    by_cases z : J ≤ t
    · exact z
    · exact absurd (Or.inl rfl) (h2 t (by omega))
  refine ⟨J, a, fun j hj => ?_, h1⟩
  by_cases z : (n + j) / 8 = n / 8
  · exact z
  · exact absurd (Or.inr z) (h2 j hj)
theorem db_sh3 {a : Nat} (h : a < 2 ^ 31) : nI a >>> ((3 : Int32) &&& 31) = nI (a / 8) := pk_shrN h _ 3 (by decide)
theorem db_xspread {post : Int32 → SX → Prop} {n m t J : Nat} (hn : n < 32) (hm : m < 32) (ht : 1 ≤ t ∧ t ≤ 8) (hJt : J ≤ t) (hJ1 : ∀ j, j < J → (n + j) / 8 = n / 8) (hJ2 : J = t ∨ (n + J) / 8 ≠ n / 8) (R : db_R u con)
    (K : ∀ u', db_R u' (db_sp n (con m) con J) → post (nI J) u') : wpX_spread post u (nI n) (nI m) (nI t) := by
  have hcm := db_R_con R hm
  have L : ∀ (d j op used : Nat) (fz : Int32) (hd us sg pl sz fl lv tb ct : Nat → Nat) (aC aK aQ : Nat → Int32), j + d = J → db_inv (db_sp n (con m) con j) hd us ct sg pl sz fl lv tb aC op used →
      wX_spread_47 post (nI n) (nI t) (nI (con m)) (d + 1) (nI j) (nI (n + j)) (nI op) (nI used) fz (db_E hd) (db_N us) (db_N sg) (db_N pl) (db_N sz) aC (db_N fl) (db_N lv) (db_E tb) aK aQ := by
    intro d
    induction d with
    | zero =>
      intro j op used fz hd us sg pl sz fl lv tb ct aC aK aQ hj I
      have : j = J := by omega
      subst this
      have Kf := K _ (db_R_i (fz := fz) (aK := aK) (aQ := aQ) I)
      by_cases e : j = t
      · refine br_t ?_ Kf
        rw [nI_add]
        exact nI_le (by omega) (by omega)
      · refine br_f ?_ (br_f ?_ Kf)
        · rw [nI_add]
          exact nI_ge (by omega) (by omega)
        · rw [db_sh3 (by omega), db_sh3 (by omega), nI_eq (by omega) (by omega)]
          rcases hJ2 with z | z
          · exact absurd z e
          · exact z
    | succ d ih =>
      intro j op used fz hd us sg pl sz fl lv tb ct aC aK aQ hj I
      have h8 := hJ1 j (by omega)
      have hk : n + j < 32 := by omega
      have hkc := db_hs_con I.1 hk
      refine br_f ?_ (br_t ?_ ⟨vp_in_nI hk (by decide), db_rd I hk ?_⟩)
      · rw [nI_add]
        exact nI_ge (by omega) (by omega)
      · rw [db_sh3 (by omega), db_sh3 (by omega), h8]
      · rw [nI_eq (by omega) (by omega)]
        by_cases e : db_sp n (con m) con j (n + j) = con m
        · have es : db_sp n (con m) con (j + 1) = db_sp n (con m) con j := by
            rw [db_sp_s]
            exact db_up_self e
          exact br_t e (nm_r (nI_1 j) (nm_r (nI_1 (n + j)) (ih (j + 1) op used fz hd us sg pl sz fl lv tb ct aC aK aQ (by omega) (by rw [es]; exact I))))
        · have hpre : 0 < db_ck 32 (db_up (db_sp n (con m) con j) (n + j) 0) (con m) := by
            refine db_ck_pos.mpr ⟨m, hm, ?_⟩
            rw [db_un ?_]
            · exact db_sp_k rfl
            · intro z
              rw [← z] at e
              exact e (db_sp_k rfl)
          refine br_f e (db_hold (db_R_i I) hk hcm (Or.inr (Or.inl hpre)) (fun u' R' => ?_))
          obtain ⟨op, used, fz, hd, us, sg, pl, sz, fl, lv, tb, ct, aC, aK, aQ, rfl, I'⟩ := R'
          exact nm_r (nI_1 j) (nm_r (nI_1 (n + j)) (ih (j + 1) op used fz hd us sg pl sz fl lv tb ct aC aK aQ (by omega) I'))
  refine db_R_e (P := fun u => wpX_spread post u (nI n) (nI m) (nI t)) R (fun op used fz hd us sg pl sz fl lv tb ct aC aK aQ I => ?_)
  unfold wpX_spread
  dsimp only
  refine db_xB_t hn (br_t rfl ?_)
  refine db_xB_t hm (br_t rfl (br_f (nI_nlt (b := 1) (by omega) (by omega)) (br_t (nI_le (b := 8) (by omega) (by decide)) ⟨vp_in_nI hm (by decide), ?_⟩)))
  exact db_rd I hm ⟨J + 1, L J 0 op used fz hd us sg pl sz fl lv tb ct aC aK aQ (by omega) I⟩
theorem db_d8 {a : Nat} (h : a < 2 ^ 31) : nI a / 8 = nI (a / 8) := pk_div (d := 8) h (by decide) (by decide)
theorem db_yspread {post : Int32 → SY → Prop} {n m t J : Nat} (hn : n < 32) (hm : m < 32) (ht : 1 ≤ t ∧ t ≤ 8) (hJt : J ≤ t) (hJ1 : ∀ j, j < J → (n + j) / 8 = n / 8) (hJ2 : J = t ∨ (n + J) / 8 ≠ n / 8) (hC : db_C aY con)
    (hU : db_U (db_sp n (con m) con J) ≤ 48) (K : ∀ a k, db_C a (db_sp n (con m) con J) → post (nI J) (a, k)) : wpY_spread post (aY, kY) (nI n) (nI m) (nI t) := by
  unfold wpY_spread
  dsimp only
  refine db_yB_t hn (br_f (by decide) ?_)
  refine db_yB_t hm (br_f (by decide) (br_f (nI_nlt (b := 1) (by omega) (by omega)) (br_t (nI_le (b := 8) (by omega) (by decide)) ?_)))
  refine db_ykeep (fun k hk => ?_)
  have hk' := db_C_k hC hk
  have hne : ¬ (8 : Int32) = 0 := by decide
  have L : ∀ (d j : Nat) (a : Nat → Int32), j + d = J → db_C a (db_sp n (con m) con j) → wY_spread_39 post (nI n) (nI m) (nI t) (d + 1) (nI j) (nI (n + j)) a k := by
    intro d
    induction d with
    | zero =>
      intro j a hj hCa
      have : j = J := by omega
      subst this
      have Kf : wY_spread_81 post (nI j) a k := by
        unfold wY_spread_81
        exact db_yfull hCa hk' (fun _ => br_t rfl (K a k hCa)) (fun z => absurd z (by omega))
      by_cases e : j = t
      · refine br_t ?_ Kf
        rw [nI_add]
        exact nI_le (by omega) (by omega)
      · refine br_f ?_ ⟨hne, hne, br_f ?_ Kf⟩
        · rw [nI_add]
          exact nI_ge (by omega) (by omega)
        · rw [db_d8 (by omega), db_d8 (by omega), nI_eq (by omega) (by omega)]
          rcases hJ2 with z | z
          · exact absurd z e
          · exact z
    | succ d ih =>
      intro j a hj hCa
      have h8 := hJ1 j (by omega)
      have hk2 : n + j < 32 := by omega
      refine br_f ?_ ⟨hne, hne, br_t ?_ ⟨vp_in_nI hm (by decide), vp_in_nI hk2 (by decide), nm_r (e' := upd a (n + j) (nI (con m))) ?_ (nm_r (nI_1 j) (nm_r (nI_1 (n + j)) (ih (j + 1) _ (by omega) (db_C_up hCa (hC m hm).2))))⟩⟩
      · rw [nI_add]
        exact nI_ge (by omega) (by omega)
      · rw [db_d8 (by omega), db_d8 (by omega), h8]
      · rw [db_C_at hk' hm, nI_clamp (by omega)]
  exact ⟨J + 1, L J 0 aY (by omega) hC⟩
theorem db_xspread_b {post : Int32 → SX → Prop} {x y z : Int32} (h : db_bd 32 x ∨ (∃ n, n < 32 ∧ x = nI n) ∧ (db_bd 32 y ∨ (∃ m, m < 32 ∧ y = nI m) ∧ (z < 1 ∨ ¬ z ≤ 8))) (K : post (-1) u) : wpX_spread post u x y z := by
  obtain ⟨fo, fu, fz, aH, aU, aS, aP, aZ, aC, aF, aL, aT, aK, aQ⟩ := u
  unfold wpX_spread
  dsimp only
  rcases h with h | ⟨⟨n, hn, rfl⟩, h⟩
  · exact db_xB_b h (br_f (by decide) K)
  · refine db_xB_t hn (br_t rfl ?_)
    rcases h with h | ⟨⟨m, hm, rfl⟩, h⟩
    · exact db_xB_b h (br_f (by decide) K)
    · refine db_xB_t hm (br_t rfl ?_)
      by_cases h1 : z < 1
      · exact br_t h1 K
      · rcases h with h | h
        · exact absurd h h1
        · exact br_f h1 (br_f h K)
theorem db_yspread_b {post : Int32 → SY → Prop} {x y z : Int32} (h : db_bd 32 x ∨ (∃ n, n < 32 ∧ x = nI n) ∧ (db_bd 32 y ∨ (∃ m, m < 32 ∧ y = nI m) ∧ (z < 1 ∨ ¬ z ≤ 8))) (K : post (-1) (aY, kY)) : wpY_spread post (aY, kY) x y z := by
  unfold wpY_spread
  dsimp only
  rcases h with h | ⟨⟨n, hn, rfl⟩, h⟩
  · exact db_yB_b h (br_t rfl K)
  · refine db_yB_t hn (br_f (by decide) ?_)
    rcases h with h | ⟨⟨m, hm, rfl⟩, h⟩
    · exact db_yB_b h (br_t rfl K)
    · refine db_yB_t hm (br_f (by decide) ?_)
      by_cases h1 : z < 1
      · exact br_t h1 K
      · rcases h with h | h
        · exact absurd h h1
        · exact br_f h1 (br_f h K)
end
end
section
section
variable {fo fu fz : Int32} {aH aU aS aP aZ aC aF aL aT aK aQ : Nat → Int32}
variable {con hd us ct sg pl sz fl lv tb : Nat → Nat} {op used : Nat} {aY kY : Nat → Int32} {u : SX}
/-! write -/
theorem db_w67 {post : Int32 → SX → Prop} {n c z : Nat} (I : db_inv con hd us ct sg pl sz fl lv tb aC op used) (hn : n < 32) (hc : c < 4096) (hne : con n ≠ c) (hz : z = if 0 < c ∧ 0 < db_ck 32 con c then 0 else db_rm c)
    (K1 : db_U (db_up con n c) ≤ 48 → ∀ u', db_R u' (db_up con n c) → post (nI (con n)) u') (K0 : 48 < db_U (db_up con n c) → ∀ u', db_R u' con → post (-2) u') :
    wX_write_67 post (nI n) (nI c) (nI (con n)) (nI (db_al con n)) (nI z) (nI op) (nI used) fz (db_E hd) (db_N us) (db_N sg) (db_N pl) (db_N sz) aC (db_N fl) (db_N lv) (db_E tb) aK aQ := by
  have hcn := db_hs_con I.1 hn
  have hU : used = db_U con := by
    rw [← db_hs_U I.1]
    exact I.2.2.2.1
  have h48 := I.2.2.2.2
  have h0 := db_U_0 hn hcn
  have hw := db_U_w hn hcn hc hne
  have h2 := db_U_c (con := db_up con n 0) (n := n) (c := c) hn db_us hc
  rw [db_up2] at h2
  rw [← hz] at hw
  have eal : (if db_ck 32 con (con n) = 1 then db_rm (con n) else 0) = db_al con n := rfl
  rw [eal] at h0 hw
  have hz5 : z ≤ 5 := by
    rw [hz]
    have := db_rm_le c
    split <;> omega
  have e : nI used - nI (db_al con n) + nI z = nI (db_U (db_up con n c)) := by
    rw [pk_sub (by omega), nI_add]
    exact congrArg nI (by omega)
  unfold wX_write_67
  rw [e]
  by_cases h : db_U (db_up con n c) ≤ 48
  · refine br_t (nI_le (b := 48) h (by decide)) (db_hold (db_R_i I) hn hc ?_ (fun u' R' => ?_))
    · by_cases hc0 : c = 0
      · exact Or.inl hc0
      · by_cases hk : 0 < db_ck 32 (db_up con n 0) c
        · exact Or.inr (Or.inl hk)
        · rw [if_neg hk, db_rm_p (by omega)] at h2
          exact Or.inr (Or.inr (by omega))
    · have k := K1 h u' R'
      obtain ⟨fo, fu, fz, aH, aU, aS, aP, aZ, aC, aF, aL, aT, aK, aQ⟩ := u'
      exact k
  · exact br_f (nI_ge (a := 48) (by omega) (by omega)) (K0 (by omega) _ (db_R_i I))
theorem db_xwrite {post : Int32 → SX → Prop} {n c : Nat} (R : db_R u con) (hn : n < 32) (hc : c < 4096)
    (K1 : db_U (db_up con n c) ≤ 48 → ∀ u', db_R u' (db_up con n c) → post (nI (con n)) u') (K0 : 48 < db_U (db_up con n c) → ∀ u', db_R u' con → post (-2) u') : wpX_write post u (nI n) (nI c) := by
  have hU := db_R_U R
  refine db_R_e (P := fun u => wpX_write post u (nI n) (nI c)) R (fun op used fz hd us sg pl sz fl lv tb ct aC aK aQ I => ?_)
  have hcn := db_hs_con I.1 hn
  unfold wpX_write
  dsimp only
  refine db_xB_t hn (br_t rfl (br_f (nI_pos (by omega)) (br_t (nI_le (b := 4095) (by omega) (by decide)) ⟨vp_in_nI hn (by decide), db_rd I hn ?_⟩)))
  rw [nI_eq (by omega) (by omega)]
  by_cases hne : con n = c
  · have es : db_up con n c = con := db_up_self hne
    rw [es] at K1
    exact br_t hne (K1 hU _ (db_R_i I))
  · refine br_f hne ?_
    refine db_xaloneI I hn ?_
    refine db_findE I hc (fun p hp hu e => ?_) (fun hno => ?_)
    · refine br_f (nI_pos (by omega)) (db_w67 (z := 0) I hn hc hne ?_ K1 K0)
      have a := I.1.2.2.1 p hp hu
      have b := db_hs_ck I.1 hp hu
      rw [e] at a b
      rw [if_pos ⟨a.1, by omega⟩]
    · refine br_t (by decide) ?_
      unfold wpX_roomOf
      dsimp only
      by_cases h0 : c = 0
      · subst h0
        refine br_t rfl (db_w67 (z := 0) I hn hc hne ?_ K1 K0)
        rw [if_neg hno, db_rm_0]
      · refine br_f (nI_ne0 (by omega) (by omega)) (db_pack hc (fun q _ => ?_))
        refine db_w67 (z := db_pz c) I hn hc hne ?_ K1 K0
        rw [if_neg hno, db_rm_p (by omega)]
theorem db_xwrite_b {post : Int32 → SX → Prop} {x y : Int32} (h : db_bd 32 x ∨ (∃ n, n < 32 ∧ x = nI n) ∧ db_bd 4096 y) (K : post (-1) u) : wpX_write post u x y := by
  obtain ⟨fo, fu, fz, aH, aU, aS, aP, aZ, aC, aF, aL, aT, aK, aQ⟩ := u
  unfold wpX_write
  dsimp only
  rcases h with h | ⟨⟨n, hn, rfl⟩, h⟩
  · exact db_xB_b h (br_f (by decide) K)
  · refine db_xB_t hn (br_t rfl ?_)
    rcases h with h | h
    · exact br_t h K
    · exact br_f (db_bd_n (by omega) h) (br_f (Int32.not_le.mpr (Int32.lt_of_lt_of_le (b := nI 4096) (by decide) h)) K)
theorem db_ywrite {post : Int32 → SY → Prop} {n c : Nat} (hC : db_C aY con) (hn : n < 32) (hc : c < 4096)
    (K1 : db_U (db_up con n c) ≤ 48 → ∀ a k, db_C a (db_up con n c) → post (nI (con n)) (a, k)) (K0 : 48 < db_U (db_up con n c) → ∀ a k, db_C a con → post (-2) (a, k)) : wpY_write post (aY, kY) (nI n) (nI c) := by
  unfold wpY_write
  dsimp only
  have hv : vp_in (nI n) 32 := vp_in_nI hn (by decide)
  refine db_yB_t hn (br_f (by decide) ?_)
  refine db_yC_t hc (br_f (by decide) ?_)
  refine db_ykeep (fun k hk => ⟨hv, nm_r (e' := upd aY n (nI c)) (by rw [nI_clamp (by omega)]) ?_⟩)
  have hk' := db_C_k hC hk
  have hC' := db_C_up (n := n) hC hc
  refine db_yfull hC' hk' (fun h => br_t rfl ⟨hv, ?_⟩) (fun h a ha => br_f (by decide) (K0 h a k ha))
  dsimp only
  rw [db_C_at hk' hn]
  exact K1 h _ k hC'
theorem db_ywrite_b {post : Int32 → SY → Prop} {x y : Int32} (h : db_bd 32 x ∨ (∃ n, n < 32 ∧ x = nI n) ∧ db_bd 4096 y) (K : post (-1) (aY, kY)) : wpY_write post (aY, kY) x y := by
  unfold wpY_write
  dsimp only
  rcases h with h | ⟨⟨n, hn, rfl⟩, h⟩
  · exact db_yB_b h (br_t rfl K)
  · refine db_yB_t hn (br_f (by decide) ?_)
    exact db_yC_b h (br_t rfl K)
/-! patch -/
theorem db_ofI (x : Int32) : x = nI x.toBitVec.toNat := by
  apply Int32.toBitVec_inj.mp
  apply BitVec.eq_of_toNat_eq
  exact (pk_tn x.toBitVec.isLt).symm
theorem db_put {a i d : Nat} (ha : a < 4096) (hi : i < 4) (hd : d < 8) : ∃ c, c < 4096 ∧ (nI a &&& (((7 : Int32) <<< ((3 * nI i) &&& 31)) ^^^ (-1))) ||| (nI d <<< ((3 * nI i) &&& 31)) = nI c := by
  rw [db_shlI hd hi]
  generalize (((7 : Int32) <<< ((3 * nI i) &&& 31)) ^^^ (-1)) = y
  rw [db_ofI y, nx_and, db_or]
  have h1 := db_pw i hi
  have h2 : d * 8 ^ i ≤ 7 * 512 := Nat.mul_le_mul (by omega) h1
  have h3 : a &&& y.toBitVec.toNat ≤ a := Nat.and_le_left
  exact ⟨_, Nat.or_lt_two_pow (n := 12) (by omega) (by omega), rfl⟩
theorem db_xpatch {post : Int32 → SX → Prop} {n i d c : Nat} (R : db_R u con) (hn : n < 32) (hi : i < 4) (hd : d < 8) (hc : c < 4096)
    (ec : (nI (con n) &&& (((7 : Int32) <<< ((3 * nI i) &&& 31)) ^^^ (-1))) ||| (nI d <<< ((3 * nI i) &&& 31)) = nI c)
    (K1 : db_U (db_up con n c) ≤ 48 → ∀ u', db_R u' (db_up con n c) → post ((nI (con n) >>> ((3 * nI i) &&& 31)) &&& 7) u') (K0 : 48 < db_U (db_up con n c) → ∀ u', db_R u' con → post (-2) u') : wpX_patch post u (nI n) (nI i) (nI d) := by
  refine db_R_e (P := fun u => wpX_patch post u (nI n) (nI i) (nI d)) R (fun op used fz hd us sg pl sz fl lv tb ct aC aK aQ I => ?_)
  have hcn := db_hs_con I.1 hn
  unfold wpX_patch
  dsimp only
  refine db_xB_t hn (br_t rfl (br_f (nI_pos (by omega)) (br_f (nI_nlt (a := 3) (by omega) (by omega)) (br_f (nI_pos (by omega)) (br_t (nI_le (b := 7) (by omega) (by decide)) ⟨vp_in_nI hn (by decide), db_rd I hn (nm_e ?_)⟩)))))
  rw [ec]
  refine db_xwrite (db_R_i I) hn hc (fun h u' R' => ?_) (fun h u' R' => ?_)
  · have k := K1 h u' R'
    obtain ⟨fo, fu, fz, aH, aU, aS, aP, aZ, aC, aF, aL, aT, aK, aQ⟩ := u'
    exact br_t (nI_pos' (by omega)) k
  · have k := K0 h u' R'
    obtain ⟨fo, fu, fz, aH, aU, aS, aP, aZ, aC, aF, aL, aT, aK, aQ⟩ := u'
    exact br_f (by decide) k
theorem db_ypatch {post : Int32 → SY → Prop} {n i d c : Nat} (hC : db_C aY con) (hn : n < 32) (hi : i < 4) (hd : d < 8) (hc : c < 4096)
    (ec : (nI (con n) &&& (((7 : Int32) <<< ((3 * nI i) &&& 31)) ^^^ (-1))) ||| (nI d <<< ((3 * nI i) &&& 31)) = nI c)
    (K1 : db_U (db_up con n c) ≤ 48 → ∀ a k, db_C a (db_up con n c) → post ((nI (con n) >>> ((3 * nI i) &&& 31)) &&& 7) (a, k)) (K0 : 48 < db_U (db_up con n c) → ∀ a k, db_C a con → post (-2) (a, k)) : wpY_patch post (aY, kY) (nI n) (nI i) (nI d) := by
  unfold wpY_patch
  dsimp only
  have hv : vp_in (nI n) 32 := vp_in_nI hn (by decide)
  refine db_yB_t hn (br_f (by decide) (br_f (nI_pos (by omega)) (br_f (nI_nlt (a := 3) (by omega) (by omega)) (br_f (nI_pos (by omega)) (br_t (nI_le (b := 7) (by omega) (by decide)) ?_)))))
  refine db_ykeep (fun k hk => ⟨hv, hv, nm_r (e' := upd aY n (nI c)) ?_ ?_⟩)
  · dsimp only
    rw [db_C_at hC hn, ec, nI_clamp (by omega)]
  · have hk' := db_C_k hC hk
    have hC' := db_C_up (n := n) hC hc
    refine db_yfull hC' hk' (fun h => br_t rfl ⟨hv, ?_⟩) (fun h a ha => br_f (by decide) (K0 h a k ha))
    dsimp only
    rw [db_C_at hk' hn]
    exact K1 h _ k hC'
theorem db_xpatch_b {post : Int32 → SX → Prop} {x y z : Int32} (h : db_bd 32 x ∨ (∃ n, n < 32 ∧ x = nI n) ∧ (db_bd 4 y ∨ db_bd 8 z)) (K : post (-1) u) : wpX_patch post u x y z := by
  obtain ⟨fo, fu, fz, aH, aU, aS, aP, aZ, aC, aF, aL, aT, aK, aQ⟩ := u
  unfold wpX_patch
  dsimp only
  rcases h with h | ⟨⟨n, hn, rfl⟩, h⟩
  · exact db_xB_b h (br_f (by decide) K)
  · refine db_xB_t hn (br_t rfl (br_c (fun _ => K) (fun h1 => br_c (fun _ => K) (fun h2 => br_c (fun _ => K) (fun h3 => br_f (fun h4 => ?_) K)))))
    rcases h with (h | h) | (h | h)
    · exact h1 h
    · exact h2 (Int32.lt_of_lt_of_le (b := nI 4) (by decide) h)
    · exact h3 h
    · exact absurd h4 (Int32.not_le.mpr (Int32.lt_of_lt_of_le (b := nI 8) (by decide) h))
theorem db_ypatch_b {post : Int32 → SY → Prop} {x y z : Int32} (h : db_bd 32 x ∨ (∃ n, n < 32 ∧ x = nI n) ∧ (db_bd 4 y ∨ db_bd 8 z)) (K : post (-1) (aY, kY)) : wpY_patch post (aY, kY) x y z := by
  unfold wpY_patch
  dsimp only
  rcases h with h | ⟨⟨n, hn, rfl⟩, h⟩
  · exact db_yB_b h (br_t rfl K)
  · refine db_yB_t hn (br_f (by decide) (br_c (fun _ => K) (fun h1 => br_c (fun _ => K) (fun h2 => br_c (fun _ => K) (fun h3 => br_f (fun h4 => ?_) K)))))
    rcases h with (h | h) | (h | h)
    · exact h1 h
    · exact h2 (Int32.lt_of_lt_of_le (b := nI 4) (by decide) h)
    · exact h3 h
    · exact absurd h4 (Int32.not_le.mpr (Int32.lt_of_lt_of_le (b := nI 8) (by decide) h))
/-! tidy, and the beginning -/
theorem db_xtidy {post : SX → Prop} (R : db_R u con) (K : ∀ u', db_R u' con → post u') : wpX_tidy post u := by
  refine db_R_e (P := fun u => wpX_tidy post u) R (fun op used fz hd us sg pl sz fl lv tb ct aC aK aQ I => ?_)
  unfold wpX_tidy
  dsimp only
  obtain ⟨h1, h2, h3, h4, h5⟩ := I
  refine db_clean (fun p hp => ?_) h1.2.2.1 h3 (fun r op' fz' fl' lv' sg' pl' sz' aC' aK' aQ' _ h3' => K _ (db_R_i ⟨h1, h2, h3', h4, h5⟩))
  have := db_hs_us h1 hp
  omega
theorem db_inv0 {hd tb : Nat → Nat} (hh : ∀ n, n < 32 → hd n = 34) (ht : ∀ i, i < 64 → tb i = 34) : db_inv (fun _ => 0) hd (fun _ => 0) (fun _ => 0) (fun _ => 0) (fun _ => 0) (fun _ => 0) (fun _ => 0) (fun _ => 0) tb (fun _ => 0) 0 0 := by
  refine ⟨⟨fun n hn => Or.inl ⟨rfl, hh n hn⟩, fun p hp => ?_, fun p _ z => absurd z (Nat.lt_irrefl 0), fun p q _ _ z => absurd z (Nat.lt_irrefl 0)⟩, ⟨fun i hi z => ?_, fun i j hi _ z => ?_, fun p _ z => absurd z (Nat.lt_irrefl 0)⟩, ⟨by omega, fun s _ => ⟨Nat.zero_le _, Nat.le_refl _⟩, fun p _ z => ?_, fun s _ => ?_⟩, ?_, by omega⟩
  · refine (db_sm_0 32 (fun n hn => if_neg ?_)).symm
    have := hh n hn
    omega
  · have := ht i hi
    omega
  · have := ht i hi
    omega
  · exact absurd (db_lv_t.mp z) (Nat.lt_irrefl 0)
  · exact (db_sm_0 33 (fun n _ => if_neg (fun z => absurd (db_lv_t.mp z.1) (Nat.lt_irrefl 0)))).symm
  · exact (db_sm_0 33 (fun n _ => if_neg (Nat.lt_irrefl 0))).symm
theorem db_xinit {post : SX → Prop} (K : ∀ u, db_R u (fun _ => 0) → post u) : wpX_init post := by
  have z1 : (fun _ => 0 : Nat → Int32) = db_N (fun _ => 0) := rfl
  have L2 : ∀ (m i : Nat) (h t : Nat → Nat), i + m = 64 → (∀ n, n < 32 → h n = 34) → (∀ j, j < i → t j = 34) → wX_init_115 post 0 0 0 (m + 1) (nI i) (db_E h) (fun _ => 0) (fun _ => 0) (fun _ => 0) (fun _ => 0) (fun _ => 0) (fun _ => 0) (fun _ => 0) (db_E t) (fun _ => 0) (fun _ => 0) := by
    intro m
    induction m with
    | zero =>
      intro i h t hi hh ht
      have : i = 64 := by omega
      subst this
      exact br_t (nI_le (a := 64) (b := 64) (by omega) (by decide)) (K _ (db_R_i (db_inv0 hh ht)))
    | succ m ih =>
      intro i h t hi hh ht
      refine br_f (nI_ge (b := 64) (by omega) (by decide)) ⟨vp_in_nI (by omega) (by decide), nm_r (e' := db_E (db_up t i 34)) ?_ (nm_r (nI_1 i) (ih (i + 1) h _ (by omega) hh (fun j hj => ?_)))⟩
      · rw [nI_clamp (by omega)]
        exact db_Eu t i 34 db_e_34.symm
      · by_cases e : j = i
        · rw [e, db_us]
        · rw [db_un e]
          exact ht j (by omega)
  have L1 : ∀ (m n : Nat) (h : Nat → Nat), n + m = 32 → (∀ j, j < n → h j = 34) → wX_init_93 post 0 0 0 (m + 1) (nI n) (db_E h) (fun _ => 0) (fun _ => 0) (fun _ => 0) (fun _ => 0) (fun _ => 0) (fun _ => 0) (fun _ => 0) (fun _ => 0) (fun _ => 0) (fun _ => 0) := by
    intro m
    induction m with
    | zero =>
      intro n h hn hh
      have : n = 32 := by omega
      subst this
      exact br_t (nI_le (a := 32) (b := 32) (by omega) (by decide)) ⟨65, L2 64 0 h (fun _ => 0) rfl hh (fun j hj => absurd hj (Nat.not_lt_zero _))⟩
    | succ m ih =>
      intro n h hn hh
      refine br_f (nI_ge (b := 32) (by omega) (by decide)) ⟨vp_in_nI (by omega) (by decide), nm_r (e' := db_E (db_up h n 34)) ?_ (nm_r (nI_1 n) (ih (n + 1) _ (by omega) (fun j hj => ?_)))⟩
      · rw [nI_clamp (by omega)]
        exact db_Eu h n 34 db_e_34.symm
      · by_cases e : j = n
        · rw [e, db_us]
        · rw [db_un e]
          exact hh j (by omega)
  exact ⟨33, L1 32 0 (fun _ => 0) rfl (fun j hj => absurd hj (Nat.not_lt_zero _))⟩
end
end
section
section
/-! what is owed -/
def i_Rel (k : Nat) (u : SX) (v : SY) : Prop := ∃ con : Nat → Nat, db_R u con ∧ db_C v.1 con
theorem i_up {k : Nat} {u : SX} {v : SY} (h : i_Rel k u v) : i_Rel (k + 4) u v := h
theorem i_vc0 : wpX_init (fun u => wpY_init (fun v => i_Rel 0 u v)) := by
  refine db_xinit (fun u R => ?_)
  exact ⟨fun _ => 0, R, fun n _ => ⟨rfl, show 0 < 4096 by decide⟩⟩
theorem i_vc_write {k : Nat} {u : SX} {v : SY} (I : i_Rel k u v) (hk : k + 4 ≤ 2048) (v1 : Int32) (v2 : Int32) : wpX_write (fun r u' => wpY_write (fun r' v' => r' = r ∧ i_Rel (k + 4) u' v') v v1 v2) u v1 v2 := by
  have I' : i_Rel (k + 4) u v := i_up I
  obtain ⟨con, R, hC⟩ := I
  obtain ⟨aY, kY⟩ := v
  rcases db_ix v1 (N := 32) (by omega) with ⟨n, hn, rfl⟩ | hb
  · rcases db_ix v2 (N := 4096) (by omega) with ⟨c, hc, rfl⟩ | hb
    · exact db_xwrite R hn hc (fun h u' R' => db_ywrite hC hn hc (fun _ a k hCa => ⟨rfl, _, R', hCa⟩) (fun h' => absurd h' (by omega)))
        (fun h u' R' => db_ywrite hC hn hc (fun h' => absurd h' (by omega)) (fun _ a k hCa => ⟨rfl, _, R', hCa⟩))
    · have hb' : db_bd 32 (nI n) ∨ (∃ m, m < 32 ∧ nI n = nI m) ∧ db_bd 4096 v2 := Or.inr ⟨⟨n, hn, rfl⟩, hb⟩
      exact db_xwrite_b hb' (db_ywrite_b hb' ⟨rfl, I'⟩)
  · exact db_xwrite_b (Or.inl hb) (db_ywrite_b (Or.inl hb) ⟨rfl, I'⟩)
theorem i_vc_read {k : Nat} {u : SX} {v : SY} (I : i_Rel k u v) (hk : k + 4 ≤ 2048) (v1 : Int32) : wpX_read (fun r => wpY_read (fun r' => r' = r ∧ i_Rel (k + 4) u v) v v1) u v1 := by
  have I' : i_Rel (k + 4) u v := i_up I
  obtain ⟨con, R, hC⟩ := I
  obtain ⟨aY, kY⟩ := v
  rcases db_ix v1 (N := 32) (by omega) with ⟨n, hn, rfl⟩ | hb
  · exact db_xread R hn (db_yread hC hn ⟨rfl, I'⟩)
  · exact db_xread_b hb (db_yread_b hb ⟨rfl, I'⟩)
theorem i_vc_patch {k : Nat} {u : SX} {v : SY} (I : i_Rel k u v) (hk : k + 4 ≤ 2048) (v1 : Int32) (v2 : Int32) (v3 : Int32) : wpX_patch (fun r u' => wpY_patch (fun r' v' => r' = r ∧ i_Rel (k + 4) u' v') v v1 v2 v3) u v1 v2 v3 := by
  have I' : i_Rel (k + 4) u v := i_up I
  obtain ⟨con, R, hC⟩ := I
  obtain ⟨aY, kY⟩ := v
  rcases db_ix v1 (N := 32) (by omega) with ⟨n, hn, rfl⟩ | hb
  · have hbad : (db_bd 4 v2 ∨ db_bd 8 v3) → wpX_patch (fun r u' => wpY_patch (fun r' v' => r' = r ∧ i_Rel (k + 4) u' v') (aY, kY) (nI n) v2 v3) u (nI n) v2 v3 := fun h => by
      have hb' : db_bd 32 (nI n) ∨ (∃ m, m < 32 ∧ nI n = nI m) ∧ (db_bd 4 v2 ∨ db_bd 8 v3) := Or.inr ⟨⟨n, hn, rfl⟩, h⟩
      exact db_xpatch_b hb' (db_ypatch_b hb' ⟨rfl, I'⟩)
    rcases db_ix v2 (N := 4) (by omega) with ⟨i, hi, rfl⟩ | hb
    · rcases db_ix v3 (N := 8) (by omega) with ⟨d, hd, rfl⟩ | hb
      · obtain ⟨c, hc, ec⟩ := db_put (hC n hn).2 hi hd
        exact db_xpatch R hn hi hd hc ec (fun h u' R' => db_ypatch hC hn hi hd hc ec (fun _ a k hCa => ⟨rfl, _, R', hCa⟩) (fun h' => absurd h' (by omega)))
          (fun h u' R' => db_ypatch hC hn hi hd hc ec (fun h' => absurd h' (by omega)) (fun _ a k hCa => ⟨rfl, _, R', hCa⟩))
      · exact hbad (Or.inr hb)
    · exact hbad (Or.inl hb)
  · exact db_xpatch_b (Or.inl hb) (db_ypatch_b (Or.inl hb) ⟨rfl, I'⟩)
theorem i_vc_spread {k : Nat} {u : SX} {v : SY} (I : i_Rel k u v) (hk : k + 4 ≤ 2048) (v1 : Int32) (v2 : Int32) (v3 : Int32) : wpX_spread (fun r u' => wpY_spread (fun r' v' => r' = r ∧ i_Rel (k + 4) u' v') v v1 v2 v3) u v1 v2 v3 := by
  have I' : i_Rel (k + 4) u v := i_up I
  obtain ⟨con, R, hC⟩ := I
  obtain ⟨aY, kY⟩ := v
  have hbad : (db_bd 32 v1 ∨ (∃ n, n < 32 ∧ v1 = nI n) ∧ (db_bd 32 v2 ∨ (∃ m, m < 32 ∧ v2 = nI m) ∧ (v3 < 1 ∨ ¬ v3 ≤ 8))) → wpX_spread (fun r u' => wpY_spread (fun r' v' => r' = r ∧ i_Rel (k + 4) u' v') (aY, kY) v1 v2 v3) u v1 v2 v3 :=
    fun h => db_xspread_b h (db_yspread_b h ⟨rfl, I'⟩)
  rcases db_ix v1 (N := 32) (by omega) with ⟨n, hn, rfl⟩ | hb
  · rcases db_ix v2 (N := 32) (by omega) with ⟨m, hm, rfl⟩ | hb
    · by_cases h1 : v3 < 1
      · exact hbad (Or.inr ⟨⟨n, hn, rfl⟩, Or.inr ⟨⟨m, hm, rfl⟩, Or.inl h1⟩⟩)
      · by_cases h8 : v3 ≤ 8
        · have h0 : ¬ v3 < 0 := fun z => h1 (Int32.lt_trans z (by decide))
          obtain ⟨t, ht, rfl⟩ := nI_of2 (n := 8) (by decide) h0 h8
          have ht1 : 1 ≤ t := by
            by_cases z : t = 0
            · subst z
              exact absurd (by decide) h1
            · omega
          obtain ⟨J, j1, j2, j3⟩ := db_stop n t
          exact db_xspread hn hm ⟨ht1, ht⟩ j1 j2 j3 R (fun u' R' => db_yspread hn hm ⟨ht1, ht⟩ j1 j2 j3 hC (db_R_U R') (fun a k hCa => ⟨rfl, _, R', hCa⟩))
        · exact hbad (Or.inr ⟨⟨n, hn, rfl⟩, Or.inr ⟨⟨m, hm, rfl⟩, Or.inr h8⟩⟩)
    · exact hbad (Or.inr ⟨⟨n, hn, rfl⟩, Or.inl hb⟩)
  · exact hbad (Or.inl hb)
theorem i_vc_clone {k : Nat} {u : SX} {v : SY} (I : i_Rel k u v) (hk : k + 4 ≤ 2048) (v1 : Int32) (v2 : Int32) : wpX_clone (fun r u' => wpY_clone (fun r' v' => r' = r ∧ i_Rel (k + 4) u' v') v v1 v2) u v1 v2 := by
  have I' : i_Rel (k + 4) u v := i_up I
  obtain ⟨con, R, hC⟩ := I
  obtain ⟨aY, kY⟩ := v
  have hbad : (db_bd 4 v1 ∨ (∃ n, n < 4 ∧ v1 = nI n) ∧ db_bd 4 v2) → wpX_clone (fun r u' => wpY_clone (fun r' v' => r' = r ∧ i_Rel (k + 4) u' v') (aY, kY) v1 v2) u v1 v2 :=
    fun h => db_xclone_b h (db_yclone_b h ⟨rfl, I'⟩)
  rcases db_ix v1 (N := 4) (by omega) with ⟨n, hn, rfl⟩ | hb
  · rcases db_ix v2 (N := 4) (by omega) with ⟨m, hm, rfl⟩ | hb
    · exact db_xclone hn hm R (fun u' R' => db_yclone hn hm hC (db_R_U R') (fun a k hCa => ⟨rfl, _, R', hCa⟩))
    · exact hbad (Or.inr ⟨⟨n, hn, rfl⟩, hb⟩)
  · exact hbad (Or.inl hb)
theorem i_vc_erase {k : Nat} {u : SX} {v : SY} (I : i_Rel k u v) (hk : k + 4 ≤ 2048) (v1 : Int32) : wpX_erase (fun r u' => wpY_erase (fun r' v' => r' = r ∧ i_Rel (k + 4) u' v') v v1) u v1 := by
  have I' : i_Rel (k + 4) u v := i_up I
  obtain ⟨con, R, hC⟩ := I
  obtain ⟨aY, kY⟩ := v
  rcases db_ix v1 (N := 4) (by omega) with ⟨n, hn, rfl⟩ | hb
  · exact db_xerase hn R (fun u' R' => db_yerase hn hC (fun a hCa => ⟨rfl, _, R', hCa⟩))
  · exact db_xerase_b hb (db_yerase_b hb ⟨rfl, I'⟩)
theorem i_vc_holders {k : Nat} {u : SX} {v : SY} (I : i_Rel k u v) (hk : k + 4 ≤ 2048) (v1 : Int32) : wpX_holders (fun r => wpY_holders (fun r' => r' = r ∧ i_Rel (k + 4) u v) v v1) u v1 := by
  have I' : i_Rel (k + 4) u v := i_up I
  obtain ⟨con, R, hC⟩ := I
  obtain ⟨aY, kY⟩ := v
  rcases db_ix v1 (N := 4096) (by omega) with ⟨n, hn, rfl⟩ | hb
  · exact db_xholders R hn (db_yholders hC hn ⟨rfl, I'⟩)
  · exact db_xholders_b hb (db_yholders_b hb ⟨rfl, I'⟩)
theorem i_vc_distinct {k : Nat} {u : SX} {v : SY} (I : i_Rel k u v) (hk : k + 4 ≤ 2048) : wpX_distinct (fun r => wpY_distinct (fun r' => r' = r ∧ i_Rel (k + 4) u v) v) u := by
  have I' : i_Rel (k + 4) u v := i_up I
  obtain ⟨con, R, hC⟩ := I
  obtain ⟨aY, kY⟩ := v
  exact db_xdistinct R (db_ydistinct hC ⟨rfl, I'⟩)
theorem i_vc_used {k : Nat} {u : SX} {v : SY} (I : i_Rel k u v) (hk : k + 4 ≤ 2048) : wpX_used (fun r => wpY_used (fun r' => r' = r ∧ i_Rel (k + 4) u v) v) u := by
  have I' : i_Rel (k + 4) u v := i_up I
  obtain ⟨con, R, hC⟩ := I
  obtain ⟨aY, kY⟩ := v
  exact db_xused R (db_yused hC ⟨rfl, I'⟩)
theorem i_vc_saved {k : Nat} {u : SX} {v : SY} (I : i_Rel k u v) (hk : k + 4 ≤ 2048) : wpX_saved (fun r => wpY_saved (fun r' => r' = r ∧ i_Rel (k + 4) u v) v) u := by
  have I' : i_Rel (k + 4) u v := i_up I
  obtain ⟨con, R, hC⟩ := I
  obtain ⟨aY, kY⟩ := v
  exact db_xsaved R (db_ysaved hC ⟨rfl, I'⟩)
theorem i_vc_alone {k : Nat} {u : SX} {v : SY} (I : i_Rel k u v) (hk : k + 4 ≤ 2048) (v1 : Int32) : wpX_alone (fun r => wpY_alone (fun r' => r' = r ∧ i_Rel (k + 4) u v) v v1) u v1 := by
  have I' : i_Rel (k + 4) u v := i_up I
  obtain ⟨con, R, hC⟩ := I
  obtain ⟨aY, kY⟩ := v
  rcases db_ix v1 (N := 32) (by omega) with ⟨n, hn, rfl⟩ | hb
  · exact db_xalone R hn (db_yalone hC hn ⟨rfl, I'⟩)
  · exact db_xalone_b hb (db_yalone_b hb ⟨rfl, I'⟩)
theorem i_vc_aloneIn {k : Nat} {u : SX} {v : SY} (I : i_Rel k u v) (hk : k + 4 ≤ 2048) (v1 : Int32) : wpX_aloneIn (fun r => wpY_aloneIn (fun r' v' => r' = r ∧ i_Rel (k + 4) u v') v v1) u v1 := by
  have I' : i_Rel (k + 4) u v := i_up I
  obtain ⟨con, R, hC⟩ := I
  obtain ⟨aY, kY⟩ := v
  rcases db_ix v1 (N := 4) (by omega) with ⟨n, hn, rfl⟩ | hb
  · exact db_xaloneIn hn R (db_yaloneIn hn hC (fun a k hCa => ⟨rfl, _, R, hCa⟩))
  · exact db_xaloneIn_b hb (db_yaloneIn_b hb ⟨rfl, I'⟩)
theorem i_vc_twin {k : Nat} {u : SX} {v : SY} (I : i_Rel k u v) (hk : k + 4 ≤ 2048) (v1 : Int32) : wpX_twin (fun r => wpY_twin (fun r' => r' = r ∧ i_Rel (k + 4) u v) v v1) u v1 := by
  have I' : i_Rel (k + 4) u v := i_up I
  obtain ⟨con, R, hC⟩ := I
  obtain ⟨aY, kY⟩ := v
  rcases db_ix v1 (N := 32) (by omega) with ⟨n, hn, rfl⟩ | hb
  · obtain ⟨r, hX, hY⟩ := db_twin (kY := kY) R hC hn
    exact hX _ (hY _ ⟨rfl, I'⟩)
  · exact db_xtwin_b hb (db_ytwin_b hb ⟨rfl, I'⟩)
theorem i_vc_favourite {k : Nat} {u : SX} {v : SY} (I : i_Rel k u v) (hk : k + 4 ≤ 2048) : wpX_favourite (fun r => wpY_favourite (fun r' => r' = r ∧ i_Rel (k + 4) u v) v) u := by
  have I' : i_Rel (k + 4) u v := i_up I
  obtain ⟨con, R, hC⟩ := I
  obtain ⟨aY, kY⟩ := v
  exact db_xfav R (fun b m hb => db_yfav hC (fun b' m' hb' => ⟨db_best_u hb hb', I'⟩))
theorem i_vc_tidy {k : Nat} {u : SX} {v : SY} (I : i_Rel k u v) (hk : k + 4 ≤ 2048) : wpX_tidy (fun u' => wpY_tidy (fun v' => i_Rel (k + 4) u' v') v) u := by
  have I' : i_Rel (k + 4) u v := i_up I
  obtain ⟨con, R, hC⟩ := I
  obtain ⟨aY, kY⟩ := v
  exact db_xtidy R (fun u' R' => ⟨con, R', hC⟩)
end
end
