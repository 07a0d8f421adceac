section
/-! rows taken over from the rows to paste: stores, nI arithmetic, masks, branches by naturals, bits -/
theorem pk_us {f : Nat → Int32} {k : Nat} {x : Int32} : upd f k x k = x := if_pos rfl
theorem pk_un {f : Nat → Int32} {k j : Nat} {x : Int32} (h : j ≠ k) : upd f k x j = f j := if_neg h
theorem pk_sub {a b : Nat} (h : b ≤ a) : nI a - nI b = nI (a - b) := by
  obtain ⟨c, rfl⟩ : ∃ c, a = c + b := ⟨a - b, by omega⟩
  rw [← nI_add, Int32.add_sub_cancel, Nat.add_sub_cancel]
theorem pk_m1 (n : Nat) : nI (n + 1) + (-1) = nI n := by
  rw [← nI_1, Int32.add_assoc, show (1 : Int32) + (-1) = 0 from rfl, Int32.add_zero]
theorem pk_mul (a b : Nat) : nI a * nI b = nI (a * b) := (Int32.ofNat_mul a b).symm
theorem pk_sub_toInt {a b : Nat} (ha : a < 2 ^ 30) (hb : b < 2 ^ 30) : (nI a - nI b).toInt = (a : Int) - b := by
  rw [Int32.toInt_sub, nI_toInt (by omega), nI_toInt (by omega)]
  exact Int.bmod_eq_of_le (by omega) (by omega)
theorem pk_sneg {a b : Nat} (hb : b < 2 ^ 30) (h : a < b) : nI a - nI b < 0 := by
  rw [Int32.lt_iff_toInt_lt, pk_sub_toInt (by omega) hb, show (0 : Int32).toInt = 0 from by decide]
  omega
theorem pk_ix (x : Int32) {n : Nat} (hn : n < 2 ^ 31) : x < 0 ∨ nI n ≤ x ∨ ∃ j : Nat, j < n ∧ x = nI j := by
  by_cases h : x < 0
  · exact Or.inl h
  · obtain ⟨j, hj, rfl⟩ := nI_of h
    by_cases h2 : j < n
    · exact Or.inr (Or.inr ⟨j, h2, rfl⟩)
    · exact Or.inr (Or.inl (nI_le (by omega) hj))
theorem pk_le {x y : Int32} {A B : Prop} (a b : Nat) (f : a ≤ b → A) (g : b < a → B) (hx : x = nI a := by rfl) (hy : y = nI b := by rfl) (ha : a < 2 ^ 31 := by omega) (hb : b < 2 ^ 31 := by omega) : (x ≤ y → A) ∧ (¬ x ≤ y → B) := by
  subst hx hy
  rw [nI_leI ha hb]
  exact ⟨f, fun z => g (by omega)⟩
theorem pk_lt {x y : Int32} {A B : Prop} (a b : Nat) (f : a < b → A) (g : b ≤ a → B) (hx : x = nI a := by rfl) (hy : y = nI b := by rfl) (ha : a < 2 ^ 31 := by omega) (hb : b < 2 ^ 31 := by omega) : (x < y → A) ∧ (¬ x < y → B) := by
  subst hx hy
  rw [nI_ltI ha hb]
  exact ⟨f, fun z => g (by omega)⟩
theorem pk_eq {x y : Int32} {A B : Prop} (a b : Nat) (f : a = b → A) (g : a ≠ b → B) (hx : x = nI a := by rfl) (hy : y = nI b := by rfl) (ha : a < 2 ^ 31 := by omega) (hb : b < 2 ^ 31 := by omega) : (x = y → A) ∧ (¬ x = y → B) := by
  subst hx hy
  rw [nI_eq ha hb]
  exact ⟨f, g⟩
theorem pk_in {x : Int32} (n N : Nat) (h : n < N) (hx : x = nI n := by rfl) (hN : N < 2 ^ 31 := by omega) : vp_in x N := by
  subst hx
  exact vp_in_nI h hN
theorem pk_cl {x : Int32} (n : Nat) (hx : x = nI n := by rfl) (h : n < 2 ^ 31 := by omega) : x.toNatClampNeg = n := by
  subst hx
  exact nI_clamp h
theorem pk_tn {n : Nat} (h : n < 2 ^ 32) : (nI n).toBitVec.toNat = n := Nat.mod_eq_of_lt h
theorem pk_and (x : Int32) {m : Int32} (k : Nat) (hm : m.toBitVec.toNat = 2 ^ k - 1) : x &&& m = nI (x.toBitVec.toNat % 2 ^ k) := by
  apply Int32.toBitVec_inj.mp
  apply BitVec.eq_of_toNat_eq
  rw [Int32.toBitVec_and, BitVec.toNat_and, hm, Nat.and_two_pow_sub_one_eq_mod]
  show _ = (BitVec.ofNat 32 _).toNat
  rw [BitVec.toNat_ofNat]
  exact (Nat.mod_eq_of_lt (Nat.lt_of_le_of_lt (Nat.mod_le _ _) x.toBitVec.isLt)).symm
theorem pk_andN {n : Nat} (h : n < 2 ^ 32) {m : Int32} (k : Nat) (hm : m.toBitVec.toNat = 2 ^ k - 1) : nI n &&& m = nI (n % 2 ^ k) := by
  rw [pk_and _ k hm, pk_tn h]
theorem pk_andE (x : Int32) {m : Int32} (k : Nat) (hm : m.toBitVec.toNat = 2 ^ k - 1) : ∃ j : Nat, j < 2 ^ k ∧ x &&& m = nI j := ⟨_, Nat.mod_lt _ (Nat.two_pow_pos k), pk_and x k hm⟩
theorem pk_andIn (x : Int32) {m : Int32} (k : Nat) (hm : m.toBitVec.toNat = 2 ^ k - 1) (hk : k ≤ 30) : vp_in (x &&& m) (2 ^ k) := by
  obtain ⟨j, hj, e⟩ := pk_andE x k hm
  rw [e]
  exact vp_in_nI hj (Nat.lt_of_le_of_lt (Nat.pow_le_pow_right (by decide) hk) (by decide))
/-! ===== Int32 by its bits: bt x i ===== -/
def bt (x : Int32) (i : Nat) : Bool := x.toBitVec.getLsbD i
theorem b_ext {x y : Int32} (h : ∀ i, i < 32 → bt x i = bt y i) : x = y := Int32.toBitVec_inj.mp (BitVec.eq_of_getLsbD_eq (fun i hi => h i hi))
theorem b_or (x y : Int32) (i : Nat) : bt (x ||| y) i = (bt x i || bt y i) := by unfold bt; rw [Int32.toBitVec_or, BitVec.getLsbD_or]
theorem b_and (x y : Int32) (i : Nat) : bt (x &&& y) i = (bt x i && bt y i) := by unfold bt; rw [Int32.toBitVec_and, BitVec.getLsbD_and]
theorem b_xor (x y : Int32) (i : Nat) : bt (x ^^^ y) i = (bt x i ^^ bt y i) := by unfold bt; rw [Int32.toBitVec_xor, BitVec.getLsbD_xor]
theorem b_big {x : Int32} {i : Nat} (h : 32 ≤ i) : bt x i = false := BitVec.getLsbD_of_ge _ _ h
theorem b_m1 : ∀ i, i < 32 → bt (-1) i = true := by decide +kernel
theorem b_0 (i : Nat) : bt 0 i = false := BitVec.getLsbD_zero
theorem s_l : ∀ n, n < 32 → ((nI n &&& 31).toBitVec.smod 32).toNat = n := by decide +kernel
theorem b_shl (n : Nat) (hn : n < 32) (x : Int32) {i : Nat} (hi : i < 32) : bt (x <<< (nI n &&& 31)) i = (decide (n ≤ i) && bt x (i - n)) := by
  unfold bt
  rw [Int32.toBitVec_shiftLeft]
  show (x.toBitVec <<< ((nI n &&& 31).toBitVec.smod 32).toNat).getLsbD i = _
  rw [s_l n hn, BitVec.getLsbD_shiftLeft]
  rcases Nat.lt_or_ge i n with h | h
  · simp [h, Nat.not_le.mpr h]
  · simp [hi, h, Nat.not_lt.mpr h]
end
section
/-! ===== answers of boolean helpers, indices, stores ===== -/
def so_b : Bool → Int32
  | true => 1
  | false => 0
theorem so_b1 : ¬ so_b true = 0 := by decide
theorem so_nb (b : Bool) : narrow .boolean (.int (so_b b)) = .int (so_b b) := by cases b <;> rfl
theorem so_br {b : Bool} {A B : Prop} (h0 : b = false → A) (h1 : b = true → B) : (so_b b = 0 → A) ∧ (¬ so_b b = 0 → B) := by
  cases b
  · exact br_t rfl (h0 rfl)
  · exact br_f so_b1 (h1 rfl)
theorem so_t {c : Prop} [Decidable c] {A B : Prop} (h0 : decide c = true → A) (h1 : decide c = false → B) : (c → A) ∧ (¬ c → B) :=
  ⟨fun h => h0 (decide_eq_true h), fun h => h1 (decide_eq_false h)⟩
theorem so_cl {e : Nat} (h : e < 64) : (nI e).toNatClampNeg = e := nI_clamp (by omega)
theorem so_uu (f : Nat → Int32) (k : Nat) (x y : Int32) : upd (upd f k x) k y = upd f k y := by
  funext j
  unfold upd
  by_cases h : j = k
  · rw [if_pos h, if_pos h]
  · rw [if_neg h, if_neg h, if_neg h]
theorem so_i16 (p i : Nat) : nI p * 16 + nI i = nI (p * 16 + i) := by
  rw [show (16 : Int32) = nI 16 from rfl, pk_mul, nI_add]
theorem so_i4 (p i : Nat) : nI p * 4 + nI i = nI (p * 4 + i) := by
  rw [show (4 : Int32) = nI 4 from rfl, pk_mul, nI_add]
theorem so_m4 {h : Nat} (hh : h < 1000) : nI h &&& 3 = nI (h % 4) := pk_andN (k := 2) (by omega) (by decide)
theorem so_n1 : (-1 : Int32) < 0 := by decide
theorem so_n1' : ¬ (0 : Int32) ≤ -1 := by decide
theorem so_ne1 {n : Nat} (h : n < 64) : ¬ nI n = -1 := fun e => nI_pos (n := n) (by omega) (e ▸ so_n1)
theorem so_nle {n : Nat} (h : n < 64) : 0 ≤ nI n := nI_pos' (by omega)
theorem so_nlt {n : Nat} (h : n < 64) : ¬ nI n < 0 := nI_pos (by omega)
theorem so_inj {a b : Nat} (ha : a < 64) (hb : b < 64) (h : nI a = nI b) : a = b := (nI_eq (by omega) (by omega)).mp h
/-! ===== loop laws ===== -/
/-- is there one of the k from i on -/
def so_any (f : Nat → Bool) : Nat → Nat → Bool
  | 0, _ => false
  | k + 1, i => f i || so_any f k (i + 1)
theorem so_any_iff {f : Nat → Bool} : ∀ (k i : Nat), so_any f k i = true ↔ ∃ j, i ≤ j ∧ j < i + k ∧ f j = true := by
  intro k
  induction k with
  | zero =>
    intro i
    constructor
    · intro h
      exact absurd h (by simp [so_any])
    · rintro ⟨j, h1, h2, _⟩
      omega
  | succ k ih =>
    intro i
    rw [so_any, Bool.or_eq_true, ih (i + 1)]
    constructor
    · rintro (h | ⟨j, h1, h2, h3⟩)
      · exact ⟨i, Nat.le_refl _, by omega, h⟩
      · exact ⟨j, by omega, by omega, h3⟩
    · rintro ⟨j, h1, h2, h3⟩
      by_cases hj : j = i
      · exact Or.inl (hj ▸ h3)
      · exact Or.inr ⟨j, by omega, by omega, h3⟩
theorem so_any_c {f g : Nat → Bool} (k i : Nat) (h : ∀ j, i ≤ j → j < i + k → f j = g j) : so_any f k i = so_any g k i := by
  rw [Bool.eq_iff_iff, so_any_iff, so_any_iff]
  constructor
  · rintro ⟨j, h1, h2, h3⟩
    exact ⟨j, h1, h2, h j h1 h2 ▸ h3⟩
  · rintro ⟨j, h1, h2, h3⟩
    exact ⟨j, h1, h2, (h j h1 h2).symm ▸ h3⟩
theorem so_lany (W : Nat → Int32 → Prop) (post : Int32 → Prop) (f : Nat → Bool) (e : Nat)
    (h0 : ∀ n, post 0 → W (n + 1) (nI e))
    (hs : ∀ n i, i < e → (f i = true → post 1) → (f i = false → W n (nI (i + 1))) → W (n + 1) (nI i)) :
    ∀ k i n, i + k = e → k < n → post (so_b (so_any f k i)) → W n (nI i) := by
  intro k
  induction k with
  | zero =>
    intro i n hi hn hp
    obtain ⟨m, rfl⟩ : ∃ m, n = m + 1 := ⟨n - 1, by omega⟩
    obtain rfl : i = e := by omega
    exact h0 m hp
  | succ k ih =>
    intro i n hi hn hp
    obtain ⟨m, rfl⟩ : ∃ m, n = m + 1 := ⟨n - 1, by omega⟩
    refine hs m i (by omega) (fun h => ?_) (fun h => ih (i + 1) m (by omega) (by omega) ?_)
    · rw [so_any, h] at hp
      exact hp
    · rw [so_any, h] at hp
      exact hp
/-- the first of the k from i on, or -1 -/
def so_fst (f : Nat → Bool) : Nat → Nat → Int32
  | 0, _ => -1
  | k + 1, i => if f i = true then nI i else so_fst f k (i + 1)
theorem so_fst_spec {f : Nat → Bool} : ∀ (k i : Nat), (so_fst f k i = -1 ∧ ∀ j, i ≤ j → j < i + k → f j = false) ∨ ∃ j, i ≤ j ∧ j < i + k ∧ so_fst f k i = nI j ∧ f j = true ∧ ∀ l, i ≤ l → l < j → f l = false := by
  intro k
  induction k with
  | zero =>
    intro i
    exact Or.inl ⟨rfl, fun j h1 h2 => by omega⟩
  | succ k ih =>
    intro i
    cases h : f i
    · have e : so_fst f (k + 1) i = so_fst f k (i + 1) := by rw [so_fst, h, if_neg (by decide)]
      rw [e]
      rcases ih (i + 1) with ⟨h1, h2⟩ | ⟨j, h1, h2, h3, h4, h5⟩
      · refine Or.inl ⟨h1, fun j hj hk => ?_⟩
        by_cases q : j = i
        · rw [q]; exact h
        · exact h2 j (by omega) (by omega)
      · refine Or.inr ⟨j, by omega, by omega, h3, h4, fun l hl hk => ?_⟩
        by_cases q : l = i
        · rw [q]; exact h
        · exact h5 l (by omega) (by omega)
    · have e : so_fst f (k + 1) i = nI i := by rw [so_fst, h, if_pos rfl]
      rw [e]
      exact Or.inr ⟨i, Nat.le_refl _, by omega, rfl, h, fun l hl hk => by omega⟩
theorem so_lfst (W : Nat → Int32 → Prop) (post : Int32 → Prop) (f : Nat → Bool) (e : Nat)
    (h0 : ∀ n, post (-1) → W (n + 1) (nI e))
    (hs : ∀ n i, i < e → (f i = true → post (nI i)) → (f i = false → W n (nI (i + 1))) → W (n + 1) (nI i)) :
    ∀ k i n, i + k = e → k < n → post (so_fst f k i) → W n (nI i) := by
  intro k
  induction k with
  | zero =>
    intro i n hi hn hp
    obtain ⟨m, rfl⟩ : ∃ m, n = m + 1 := ⟨n - 1, by omega⟩
    obtain rfl : i = e := by omega
    exact h0 m hp
  | succ k ih =>
    intro i n hi hn hp
    obtain ⟨m, rfl⟩ : ∃ m, n = m + 1 := ⟨n - 1, by omega⟩
    refine hs m i (by omega) (fun h => ?_) (fun h => ih (i + 1) m (by omega) (by omega) ?_)
    · rw [so_fst, h, if_pos rfl] at hp
      exact hp
    · rw [so_fst, h, if_neg (by decide)] at hp
      exact hp
/-- a value carried over the k from i on -/
def so_fold (g : Nat → Int32 → Int32) : Nat → Nat → Int32 → Int32
  | 0, _, a => a
  | k + 1, i, a => so_fold g k (i + 1) (g i a)
theorem so_lfold (W : Nat → Int32 → Int32 → Prop) (post : Int32 → Prop) (g : Nat → Int32 → Int32) (P : Nat → Int32 → Prop) (e : Nat)
    (h0 : ∀ n a, P e a → post a → W (n + 1) a (nI e))
    (hs : ∀ n i a, i < e → P i a → W n (g i a) (nI (i + 1)) → W (n + 1) a (nI i))
    (hP : ∀ i a, i < e → P i a → P (i + 1) (g i a)) :
    ∀ k i n a, i + k = e → k < n → P i a → post (so_fold g k i a) → W n a (nI i) := by
  intro k
  induction k with
  | zero =>
    intro i n a hi hn hq hp
    obtain ⟨m, rfl⟩ : ∃ m, n = m + 1 := ⟨n - 1, by omega⟩
    obtain rfl : i = e := by omega
    exact h0 m a hq hp
  | succ k ih =>
    intro i n a hi hn hq hp
    obtain ⟨m, rfl⟩ : ∃ m, n = m + 1 := ⟨n - 1, by omega⟩
    exact hs m i a (by omega) hq (ih (i + 1) m (g i a) (by omega) (by omega) (hP i a (by omega) hq) hp)
/-- how many of the k from i on -/
def so_cnt (f : Nat → Bool) : Nat → Nat → Nat
  | 0, _ => 0
  | k + 1, i => (if f i = true then 1 else 0) + so_cnt f k (i + 1)
theorem so_cnt_le {f : Nat → Bool} : ∀ (k i : Nat), so_cnt f k i ≤ k := by
  intro k
  induction k with
  | zero => intro i; exact Nat.le_refl _
  | succ k ih =>
    intro i
    have := ih (i + 1)
    rw [so_cnt]
    split <;> omega
theorem so_cnt_c {f g : Nat → Bool} : ∀ (k i : Nat), (∀ j, i ≤ j → j < i + k → f j = g j) → so_cnt f k i = so_cnt g k i := by
  intro k
  induction k with
  | zero => intro i _; rfl
  | succ k ih =>
    intro i h
    rw [so_cnt, so_cnt, ih (i + 1) (fun j h1 h2 => h j (by omega) (by omega)), h i (Nat.le_refl _) (by omega)]
theorem so_cnt_s {f : Nat → Bool} : ∀ (k i : Nat), so_cnt f (k + 1) i = so_cnt f k i + (if f (i + k) = true then 1 else 0) := by
  intro k
  induction k with
  | zero =>
    intro i
    simp [so_cnt]
  | succ k ih =>
    intro i
    rw [so_cnt, ih (i + 1), so_cnt, show i + 1 + k = i + (k + 1) by omega]
    omega
theorem so_lcnt (W : Nat → Int32 → Int32 → Prop) (post : Int32 → Prop) (f : Nat → Bool) (e : Nat)
    (h0 : ∀ n c, post (nI c) → W (n + 1) (nI c) (nI e))
    (hs : ∀ n i c, i < e → (f i = true → W n (nI (c + 1)) (nI (i + 1))) → (f i = false → W n (nI c) (nI (i + 1))) → W (n + 1) (nI c) (nI i)) :
    ∀ k i n c, i + k = e → k < n → post (nI (c + so_cnt f k i)) → W n (nI c) (nI i) := by
  intro k
  induction k with
  | zero =>
    intro i n c hi hn hp
    obtain ⟨m, rfl⟩ : ∃ m, n = m + 1 := ⟨n - 1, by omega⟩
    obtain rfl : i = e := by omega
    exact h0 m c hp
  | succ k ih =>
    intro i n c hi hn hp
    obtain ⟨m, rfl⟩ : ∃ m, n = m + 1 := ⟨n - 1, by omega⟩
    refine hs m i c (by omega) (fun h => ih (i + 1) m (c + 1) (by omega) (by omega) ?_) (fun h => ih (i + 1) m c (by omega) (by omega) ?_)
    · rw [so_cnt, h, if_pos rfl, ← Nat.add_assoc] at hp
      exact hp
    · rw [so_cnt, h, if_neg (by decide), Nat.zero_add] at hp
      exact hp
/-- one store from the k cells from i on set to v -/
def so_fill (f : Nat → Int32) (v : Int32) (i : Nat) : Nat → Int32 := fun j => if j < i then v else f j
theorem so_fill_0 (f : Nat → Int32) (v : Int32) : so_fill f v 0 = f := by
  funext j
  exact if_neg (Nat.not_lt_zero j)
theorem so_fill_s (f : Nat → Int32) (v : Int32) (i : Nat) : upd (so_fill f v i) i v = so_fill f v (i + 1) := by
  funext j
  unfold upd so_fill
  by_cases h : j = i
  · rw [if_pos h, if_pos (by omega)]
  · rw [if_neg h]
    by_cases q : j < i
    · rw [if_pos q, if_pos (by omega)]
    · rw [if_neg q, if_neg (by omega)]
theorem so_fill_k (v : Int32) (i : Nat) : so_fill (fun _ => v) v i = fun _ => v := by
  funext j
  unfold so_fill
  split <;> rfl
theorem so_fill_in {f : Nat → Int32} {v : Int32} {i j : Nat} (h : j < i) : so_fill f v i j = v := if_pos h
end
section
/-! ===== the words about events, and their walks on both sides ===== -/
def so_R (K : Nat → Int32) (e : Nat) : Bool := decide (K e = 3) || decide (K e = 6)
def so_W (K : Nat → Int32) (e : Nat) : Bool := decide (K e = 4) || decide (K e = 6)
def so_M (K : Nat → Int32) (e : Nat) : Bool := !decide (K e = 5)
def so_rk (Pl : Nat → Int32) (e : Nat) : Int32 := if Pl e < 0 then 64 + nI e else Pl e
def so_bf (Pl : Nat → Int32) (d e : Nat) : Bool := !decide (so_rk Pl e ≤ so_rk Pl d)
def so_pb (O : Nat → Int32) (d e : Nat) : Bool := decide (d < e) && decide (O d = O e)
/-- e is a store of p that waits -/
def so_pd (K O md : Nat → Int32) (p e : Nat) : Bool := decide (K e = 4) && (decide (O e = nI p) && decide (md e < 0))
section
variable {nP nW nD nL E G : Nat} {ra ac : Int32} {cd cx cy ln rg ct bE bA bV hea pn wd wr K O A Wt R S Pl nd ar rW rV md li lt : Nat → Int32}
variable {e d p : Nat} {post : Int32 → Prop}
theorem so_xR (he : e < 24) (h : post (so_b (so_R K e))) : wpX_isRead post (nI nP, nI nW, nI nD, nI nL, nI E, nI G, ra, ac, cd, cx, cy, ln, rg, ct, bE, bA, bV, hea, pn, wd, wr, K, O, A, Wt, R, S, Pl, nd, ar, rW, rV) (nI e) := by
  have c := so_cl (e := e) (by omega)
  have hv := vp_in_nI he (by decide)
  unfold wpX_isRead
  dsimp only
  rw [c]
  by_cases h3 : K e = 3
  · rw [show so_R K e = true by simp [so_R, h3]] at h
    exact ⟨hv, br_t h3 h⟩
  · by_cases h6 : K e = 6
    · rw [show so_R K e = true by simp [so_R, h6]] at h
      exact ⟨hv, br_f h3 ⟨hv, br_t h6 h⟩⟩
    · rw [show so_R K e = false by simp [so_R, h3, h6]] at h
      exact ⟨hv, br_f h3 ⟨hv, br_f h6 h⟩⟩
theorem so_xW (he : e < 24) (h : post (so_b (so_W K e))) : wpX_isWrite post (nI nP, nI nW, nI nD, nI nL, nI E, nI G, ra, ac, cd, cx, cy, ln, rg, ct, bE, bA, bV, hea, pn, wd, wr, K, O, A, Wt, R, S, Pl, nd, ar, rW, rV) (nI e) := by
  have c := so_cl (e := e) (by omega)
  have hv := vp_in_nI he (by decide)
  unfold wpX_isWrite
  dsimp only
  rw [c]
  by_cases h3 : K e = 4
  · rw [show so_W K e = true by simp [so_W, h3]] at h
    exact ⟨hv, br_t h3 h⟩
  · by_cases h6 : K e = 6
    · rw [show so_W K e = true by simp [so_W, h6]] at h
      exact ⟨hv, br_f h3 ⟨hv, br_t h6 h⟩⟩
    · rw [show so_W K e = false by simp [so_W, h3, h6]] at h
      exact ⟨hv, br_f h3 ⟨hv, br_f h6 h⟩⟩
theorem so_xrk (he : e < 24) (h : post (so_rk Pl e)) : wpX_rank post (nI nP, nI nW, nI nD, nI nL, nI E, nI G, ra, ac, cd, cx, cy, ln, rg, ct, bE, bA, bV, hea, pn, wd, wr, K, O, A, Wt, R, S, Pl, nd, ar, rW, rV) (nI e) := by
  have c := so_cl (e := e) (by omega)
  have hv := vp_in_nI he (by decide)
  unfold wpX_rank
  dsimp only
  rw [c]
  by_cases q : Pl e < 0
  · rw [show so_rk Pl e = 64 + nI e from if_pos q] at h
    exact ⟨hv, br_t q h⟩
  · rw [show so_rk Pl e = Pl e from if_neg q] at h
    exact ⟨hv, br_f q ⟨hv, h⟩⟩
theorem so_xbf (hd : d < 24) (he : e < 24) (h : post (so_b (so_bf Pl d e))) : wpX_isBefore post (nI nP, nI nW, nI nD, nI nL, nI E, nI G, ra, ac, cd, cx, cy, ln, rg, ct, bE, bA, bV, hea, pn, wd, wr, K, O, A, Wt, R, S, Pl, nd, ar, rW, rV) (nI d) (nI e) := by
  unfold wpX_isBefore
  dsimp only
  refine so_xrk hd (so_xrk he ?_)
  unfold so_bf at h
  by_cases q : so_rk Pl e ≤ so_rk Pl d
  · rw [decide_eq_true q] at h
    exact br_t q h
  · rw [decide_eq_false q] at h
    exact br_f q h
theorem so_yR (he : e < 24) (h : post (so_b (so_R K e))) : wpY_isRead post (nI nP, nI nW, nI nD, nI nL, nI E, ra, cd, cx, cy, ln, rg, ct, K, O, A, Wt, R, S, Pl, md, li, lt) (nI e) := by
  have c := so_cl (e := e) (by omega)
  have hv := vp_in_nI he (by decide)
  unfold wpY_isRead
  dsimp only
  rw [c]
  by_cases h3 : K e = 3
  · rw [show so_R K e = true by simp [so_R, h3]] at h
    exact ⟨hv, br_t h3 h⟩
  · by_cases h6 : K e = 6
    · rw [show so_R K e = true by simp [so_R, h6]] at h
      exact ⟨hv, br_f h3 ⟨hv, br_t h6 h⟩⟩
    · rw [show so_R K e = false by simp [so_R, h3, h6]] at h
      exact ⟨hv, br_f h3 ⟨hv, br_f h6 h⟩⟩
theorem so_yW (he : e < 24) (h : post (so_b (so_W K e))) : wpY_isWrite post (nI nP, nI nW, nI nD, nI nL, nI E, ra, cd, cx, cy, ln, rg, ct, K, O, A, Wt, R, S, Pl, md, li, lt) (nI e) := by
  have c := so_cl (e := e) (by omega)
  have hv := vp_in_nI he (by decide)
  unfold wpY_isWrite
  dsimp only
  rw [c]
  by_cases h3 : K e = 4
  · rw [show so_W K e = true by simp [so_W, h3]] at h
    exact ⟨hv, br_t h3 h⟩
  · by_cases h6 : K e = 6
    · rw [show so_W K e = true by simp [so_W, h6]] at h
      exact ⟨hv, br_f h3 ⟨hv, br_t h6 h⟩⟩
    · rw [show so_W K e = false by simp [so_W, h3, h6]] at h
      exact ⟨hv, br_f h3 ⟨hv, br_f h6 h⟩⟩
theorem so_yrk (he : e < 24) (h : post (so_rk Pl e)) : wpY_rank post (nI nP, nI nW, nI nD, nI nL, nI E, ra, cd, cx, cy, ln, rg, ct, K, O, A, Wt, R, S, Pl, md, li, lt) (nI e) := by
  have c := so_cl (e := e) (by omega)
  have hv := vp_in_nI he (by decide)
  unfold wpY_rank
  dsimp only
  rw [c]
  by_cases q : Pl e < 0
  · rw [show so_rk Pl e = 64 + nI e from if_pos q] at h
    exact ⟨hv, br_t q h⟩
  · rw [show so_rk Pl e = Pl e from if_neg q] at h
    exact ⟨hv, br_f q ⟨hv, h⟩⟩
theorem so_ybf (hd : d < 24) (he : e < 24) (h : post (so_b (so_bf Pl d e))) : wpY_before post (nI nP, nI nW, nI nD, nI nL, nI E, ra, cd, cx, cy, ln, rg, ct, K, O, A, Wt, R, S, Pl, md, li, lt) (nI d) (nI e) := by
  unfold wpY_before
  dsimp only
  refine so_yrk hd (so_yrk he ?_)
  unfold so_bf at h
  by_cases q : so_rk Pl e ≤ so_rk Pl d
  · rw [decide_eq_true q] at h
    exact br_t q h
  · rw [decide_eq_false q] at h
    exact br_f q h
theorem so_xM (he : e < 24) (h : post (so_b (so_M K e))) : wpX_isMemoryEvent post (nI nP, nI nW, nI nD, nI nL, nI E, nI G, ra, ac, cd, cx, cy, ln, rg, ct, bE, bA, bV, hea, pn, wd, wr, K, O, A, Wt, R, S, Pl, nd, ar, rW, rV) (nI e) := by
  have c := so_cl (e := e) (by omega)
  have hv := vp_in_nI he (by decide)
  unfold wpX_isMemoryEvent
  dsimp only
  rw [c]
  unfold so_M at h
  by_cases q : K e = 5
  · rw [decide_eq_true q] at h
    exact ⟨hv, br_t q h⟩
  · rw [decide_eq_false q] at h
    exact ⟨hv, br_f q h⟩
theorem so_xpb (hd : d < 24) (he : e < 24) (h : post (so_b (so_pb O d e))) : wpX_isProgramBefore post (nI nP, nI nW, nI nD, nI nL, nI E, nI G, ra, ac, cd, cx, cy, ln, rg, ct, bE, bA, bV, hea, pn, wd, wr, K, O, A, Wt, R, S, Pl, nd, ar, rW, rV) (nI d) (nI e) := by
  have c := so_cl (e := e) (by omega)
  have c2 := so_cl (e := d) (by omega)
  have hv := vp_in_nI he (by decide)
  have hv2 := vp_in_nI hd (by decide)
  unfold wpX_isProgramBefore
  dsimp only
  rw [c, c2]
  unfold so_pb at h
  by_cases q : d < e
  · rw [decide_eq_true q, Bool.true_and] at h
    refine br_f (nI_ge q (by omega)) ⟨hv2, hv, ?_⟩
    by_cases q2 : O d = O e
    · rw [decide_eq_true q2] at h
      exact br_t q2 h
    · rw [decide_eq_false q2] at h
      exact br_f q2 h
  · rw [decide_eq_false q, Bool.false_and] at h
    exact br_t (nI_le (by omega) (by omega)) h
theorem so_xP0 {p : Int32} (h : p < 0 ∨ nI nP ≤ p) (hp : post 0) : wpX_isProcessor post (nI nP, nI nW, nI nD, nI nL, nI E, nI G, ra, ac, cd, cx, cy, ln, rg, ct, bE, bA, bV, hea, pn, wd, wr, K, O, A, Wt, R, S, Pl, nd, ar, rW, rV) p := by
  unfold wpX_isProcessor
  dsimp only
  by_cases q : p < 0
  · exact br_t q hp
  · exact br_f q (br_t (h.resolve_left q) hp)
theorem so_xP1 (h : p < nP) (h4 : nP ≤ 4) (hp : post 1) : wpX_isProcessor post (nI nP, nI nW, nI nD, nI nL, nI E, nI G, ra, ac, cd, cx, cy, ln, rg, ct, bE, bA, bV, hea, pn, wd, wr, K, O, A, Wt, R, S, Pl, nd, ar, rW, rV) (nI p) := by
  unfold wpX_isProcessor
  dsimp only
  exact br_f (nI_pos (by omega)) (br_f (nI_ge h (by omega)) hp)
theorem so_xA0 {p : Int32} (h : p < 0 ∨ nI nW ≤ p) (hp : post 0) : wpX_isAddress post (nI nP, nI nW, nI nD, nI nL, nI E, nI G, ra, ac, cd, cx, cy, ln, rg, ct, bE, bA, bV, hea, pn, wd, wr, K, O, A, Wt, R, S, Pl, nd, ar, rW, rV) p := by
  unfold wpX_isAddress
  dsimp only
  by_cases q : p < 0
  · exact br_t q hp
  · exact br_f q (br_t (h.resolve_left q) hp)
theorem so_xA1 (h : p < nW) (h4 : nW ≤ 8) (hp : post 1) : wpX_isAddress post (nI nP, nI nW, nI nD, nI nL, nI E, nI G, ra, ac, cd, cx, cy, ln, rg, ct, bE, bA, bV, hea, pn, wd, wr, K, O, A, Wt, R, S, Pl, nd, ar, rW, rV) (nI p) := by
  unfold wpX_isAddress
  dsimp only
  exact br_f (nI_pos (by omega)) (br_f (nI_ge h (by omega)) hp)
theorem so_xE0 {p : Int32} (h : p < 0 ∨ nI E ≤ p) (hp : post 0) : wpX_isEvent post (nI nP, nI nW, nI nD, nI nL, nI E, nI G, ra, ac, cd, cx, cy, ln, rg, ct, bE, bA, bV, hea, pn, wd, wr, K, O, A, Wt, R, S, Pl, nd, ar, rW, rV) p := by
  unfold wpX_isEvent
  dsimp only
  by_cases q : p < 0
  · exact br_t q hp
  · exact br_f q (br_t (h.resolve_left q) hp)
theorem so_xE1 (h : p < E) (h4 : E ≤ 24) (hp : post 1) : wpX_isEvent post (nI nP, nI nW, nI nD, nI nL, nI E, nI G, ra, ac, cd, cx, cy, ln, rg, ct, bE, bA, bV, hea, pn, wd, wr, K, O, A, Wt, R, S, Pl, nd, ar, rW, rV) (nI p) := by
  unfold wpX_isEvent
  dsimp only
  exact br_f (nI_pos (by omega)) (br_f (nI_ge h (by omega)) hp)
theorem so_ypd (he : e < 24) (h : post (so_b (so_pd K O md p e))) : wpY_isPending post (nI nP, nI nW, nI nD, nI nL, nI E, ra, cd, cx, cy, ln, rg, ct, K, O, A, Wt, R, S, Pl, md, li, lt) (nI p) (nI e) := by
  have c := so_cl (e := e) (by omega)
  have hv := vp_in_nI he (by decide)
  unfold wpY_isPending
  dsimp only
  rw [c]
  by_cases q1 : K e = 4
  · refine ⟨hv, br_t q1 ⟨hv, ?_⟩⟩
    by_cases q2 : O e = nI p
    · refine br_t q2 ⟨hv, ?_⟩
      by_cases q3 : md e < 0
      · rw [show so_pd K O md p e = true by simp [so_pd, q1, q2, q3]] at h
        exact br_f (Int32.not_le.mpr q3) h
      · rw [show so_pd K O md p e = false by simp [so_pd, q3]] at h
        exact br_t (Int32.not_lt.mp q3) h
    · rw [show so_pd K O md p e = false by simp [so_pd, q2]] at h
      exact br_f q2 h
  · rw [show so_pd K O md p e = false by simp [so_pd, q1]] at h
    exact ⟨hv, br_f q1 h⟩
end
end
section
/-! ===== the six rules: one boolean an event, met by both sides ===== -/
theorem so_p {post : Int32 → Prop} {b : Bool} (h : post (so_b b)) (hb : b = true) : post 1 := by
  subst hb
  exact h
theorem so_q {post : Int32 → Prop} {b : Bool} (h : post (so_b b)) (hb : b = false) : post 0 := by
  subst hb
  exact h
theorem so_any_and (c : Bool) (f : Nat → Bool) (k i : Nat) : so_any (fun d => c && f d) k i = (c && so_any f k i) := by
  cases c
  · rw [Bool.false_and, Bool.eq_false_iff, ne_eq, so_any_iff]
    rintro ⟨j, _, _, h⟩
    exact absurd h (by simp)
  · rw [Bool.true_and]
    exact so_any_c k i (fun j _ _ => by simp)
/-- the source of e is bad -/
def so_bs (K A Wt R S : Nat → Int32) (e : Nat) : Bool :=
  if S e < 0 then !decide (R e = 0) else
    (decide (S e = nI e) || (!so_W K (S e).toNatClampNeg || (!decide (A (S e).toNatClampNeg = A e) || !decide (Wt (S e).toNatClampNeg = R e))))
def so_f2 (K O Pl : Nat → Int32) (e d : Nat) : Bool := so_R K d && (so_pb O d e && !so_bf Pl d e)
def so_f3 (K O Pl : Nat → Int32) (e d : Nat) : Bool := so_W K d && (so_pb O d e && !so_bf Pl d e)
/-- the walk back from e: k events left, a fence met or not -/
def so_g4 (K O Pl : Nat → Int32) (e : Nat) : Nat → Bool → Bool
  | 0, _ => false
  | d + 1, fl => if O d = O e then (if K d = 5 then so_g4 K O Pl e d true else if (fl && (so_W K d && !so_bf Pl d e)) = true then true else so_g4 K O Pl e d fl) else so_g4 K O Pl e d fl
/-- an event of the owner of e, of one of two kinds, between d and e -/
def so_btf (K O : Nat → Int32) (x y : Int32) (e f : Nat) : Bool := decide (O f = O e) && (decide (K f = x) || decide (K f = y))
def so_bt (K O : Nat → Int32) (x y : Int32) (d e : Nat) : Bool := so_any (so_btf K O x y e) (e - (d + 1)) (d + 1)
def so_f4 (K O Pl : Nat → Int32) (e d : Nat) : Bool := decide (O d = O e) && (!so_bf Pl d e && (so_W K d && so_bt K O 5 5 d e))
theorem so_g4_iff {K O Pl : Nat → Int32} {e : Nat} : ∀ (k : Nat) (fl : Bool), so_g4 K O Pl e k fl = true ↔ ∃ d, d < k ∧ O d = O e ∧ so_W K d = true ∧ so_bf Pl d e = false ∧ (fl = true ∨ ∃ f, d < f ∧ f < k ∧ O f = O e ∧ K f = 5) := by
  intro k
  induction k with
  | zero =>
    intro fl
    constructor
    · intro h
      exact absurd h (by simp [so_g4])
    · rintro ⟨d, h, _⟩
      omega
  | succ k ih =>
    intro fl
    rw [so_g4]
    by_cases q1 : O k = O e
    · rw [if_pos q1]
      by_cases q2 : K k = 5
      · rw [if_pos q2, ih]
        constructor
        · rintro ⟨d, h1, h2, h3, h4, _⟩
          exact ⟨d, by omega, h2, h3, h4, Or.inr ⟨k, h1, by omega, q1, q2⟩⟩
        · rintro ⟨d, h1, h2, h3, h4, _⟩
          have hw : d ≠ k := by
            intro z
            rw [z] at h3
            simp [so_W, q2] at h3
          exact ⟨d, by omega, h2, h3, h4, Or.inl rfl⟩
      · rw [if_neg q2]
        by_cases q3 : (fl && (so_W K k && !so_bf Pl k e)) = true
        · rw [if_pos q3]
          have q4 : fl = true ∧ so_W K k = true ∧ so_bf Pl k e = false := by
            revert q3
            cases fl <;> cases so_W K k <;> cases so_bf Pl k e <;> simp
          exact ⟨fun _ => ⟨k, by omega, q1, q4.2.1, q4.2.2, Or.inl q4.1⟩, fun _ => rfl⟩
        · rw [if_neg q3, ih]
          constructor
          · rintro ⟨d, h1, h2, h3, h4, h5⟩
            refine ⟨d, by omega, h2, h3, h4, ?_⟩
            rcases h5 with h5 | ⟨f, g1, g2, g3, g4⟩
            · exact Or.inl h5
            · exact Or.inr ⟨f, g1, by omega, g3, g4⟩
          · rintro ⟨d, h1, h2, h3, h4, h5⟩
            have hd : d ≠ k := by
              intro z
              rw [z] at h3 h4
              rcases h5 with h5 | ⟨f, g1, g2, g3, g4⟩
              · exact q3 (by rw [h5, h3, h4]; rfl)
              · omega
            refine ⟨d, by omega, h2, h3, h4, ?_⟩
            rcases h5 with h5 | ⟨f, g1, g2, g3, g4⟩
            · exact Or.inl h5
            · have hf : f ≠ k := by
                intro z
                rw [z] at g4
                exact q2 g4
              exact Or.inr ⟨f, g1, by omega, g3, g4⟩
    · rw [if_neg q1, ih]
      constructor
      · rintro ⟨d, h1, h2, h3, h4, h5⟩
        refine ⟨d, by omega, h2, h3, h4, ?_⟩
        rcases h5 with h5 | ⟨f, g1, g2, g3, g4⟩
        · exact Or.inl h5
        · exact Or.inr ⟨f, g1, by omega, g3, g4⟩
      · rintro ⟨d, h1, h2, h3, h4, h5⟩
        have hd : d ≠ k := by
          intro z
          rw [z] at h2
          exact q1 h2
        refine ⟨d, by omega, h2, h3, h4, ?_⟩
        rcases h5 with h5 | ⟨f, g1, g2, g3, g4⟩
        · exact Or.inl h5
        · have hf : f ≠ k := by
            intro z
            rw [z] at g3
            exact q1 g3
          exact Or.inr ⟨f, g1, by omega, g3, g4⟩
theorem so_g4_f4 (K O Pl : Nat → Int32) (e : Nat) : so_g4 K O Pl e e false = so_any (so_f4 K O Pl e) e 0 := by
  rw [Bool.eq_iff_iff, so_g4_iff, so_any_iff]
  constructor
  · rintro ⟨d, h1, h2, h3, h4, h5⟩
    refine ⟨d, by omega, by omega, ?_⟩
    rcases h5 with h5 | ⟨f, g1, g2, g3, g4⟩
    · exact absurd h5 (by decide)
    · have hb : so_bt K O 5 5 d e = true := so_any_iff _ _ |>.mpr ⟨f, by omega, by omega, by simp [so_btf, g3, g4]⟩
      simp [so_f4, h2, h3, h4, hb]
  · rintro ⟨d, h1, h2, h3⟩
    simp only [so_f4, Bool.and_eq_true, decide_eq_true_eq, Bool.not_eq_true'] at h3
    obtain ⟨g1, g2, g3, g4⟩ := h3
    obtain ⟨f, f1, f2, f3⟩ := (so_any_iff _ _).mp g4
    simp only [so_btf, Bool.and_eq_true, decide_eq_true_eq, Bool.or_eq_true, or_self] at f3
    exact ⟨d, by omega, g1, g3, g2, Or.inr ⟨f, by omega, by omega, f3.1, f3.2⟩⟩
/-- one step of the scan for the visible write of e -/
def so_vg (K O A Pl : Nat → Int32) (e d : Nat) (b : Int32) : Int32 :=
  if (!decide (d = e) && (so_W K d && (decide (A d = A e) && ((so_bf Pl d e || so_pb O d e) && (decide (b < 0) || so_bf Pl b.toNatClampNeg d))))) = true then nI d else b
/-- a scan's best so far -/
def so_ok (i : Nat) (b : Int32) : Prop := b = -1 ∨ ∃ j, j < i ∧ b = nI j
theorem so_vg_t {K O A Pl : Nat → Int32} {e d : Nat} {b : Int32} {Q : Int32 → Prop} (h : Q (so_vg K O A Pl e d b)) (hb : (!decide (d = e) && (so_W K d && (decide (A d = A e) && ((so_bf Pl d e || so_pb O d e) && (decide (b < 0) || so_bf Pl b.toNatClampNeg d))))) = true) : Q (nI d) := by
  unfold so_vg at h
  rw [if_pos hb] at h
  exact h
theorem so_vg_f {K O A Pl : Nat → Int32} {e d : Nat} {b : Int32} {Q : Int32 → Prop} (h : Q (so_vg K O A Pl e d b)) (hb : (!decide (d = e) && (so_W K d && (decide (A d = A e) && ((so_bf Pl d e || so_pb O d e) && (decide (b < 0) || so_bf Pl b.toNatClampNeg d))))) = false) : Q b := by
  unfold so_vg at h
  rw [if_neg (by rw [hb]; decide)] at h
  exact h
theorem so_vg_ok {K O A Pl : Nat → Int32} {e d : Nat} {b : Int32} (h : so_ok d b) : so_ok (d + 1) (so_vg K O A Pl e d b) := by
  unfold so_vg
  split
  · exact Or.inr ⟨d, by omega, rfl⟩
  · rcases h with h | ⟨j, hj, h⟩
    · exact Or.inl h
    · exact Or.inr ⟨j, by omega, h⟩
def so_vw (K O A Pl : Nat → Int32) (E e : Nat) : Int32 := so_fold (so_vg K O A Pl e) E 0 (-1)
def so_f6 (K A Pl : Nat → Int32) (e d : Nat) : Bool := so_W K d && (decide (A d = A e) && !decide (Pl d ≤ Pl e))
end
section
/-! ===== walks of the rules ===== -/
section
variable {nP nW nD nL E G : Nat} {ra ac : Int32} {cd cx cy ln rg ct bE bA bV hea pn wd wr K O A Wt R S Pl nd ar rW rV md li lt : Nat → Int32}
variable {e d : Nat} {post : Int32 → Prop}
theorem so_xf1 (he : e < 24) (hS : S e = -1 ∨ ∃ s, s < 24 ∧ S e = nI s) (h : post (so_b (so_R K e && so_bs K A Wt R S e))) : wpX_breaksSource post (nI nP, nI nW, nI nD, nI nL, nI E, nI G, ra, ac, cd, cx, cy, ln, rg, ct, bE, bA, bV, hea, pn, wd, wr, K, O, A, Wt, R, S, Pl, nd, ar, rW, rV) (nI e) := by
  have c := so_cl (e := e) (by omega)
  have hv := vp_in_nI he (by decide)
  unfold wpX_breaksSource
  dsimp only
  rw [c]
  refine so_xR he (so_br (fun q => so_q h (by rw [q]; rfl)) (fun q => ⟨hv, fun x ex => ?_⟩))
  rw [q, Bool.true_and] at h
  rcases hS with hS | ⟨s, hs, hS⟩
  · rw [hS] at ex
    subst ex
    exact br_f so_n1' ⟨hv, br_c (fun q => so_q h (by simp [so_bs, hS, so_n1, q])) (fun q => so_p h (by simp [so_bs, hS, so_n1, q]))⟩
  · rw [hS] at ex
    subst ex
    have c2 := so_cl (e := s) (by omega)
    have hn := so_nlt (n := s) (by omega)
    have hv2 := vp_in_nI hs (by decide)
    rw [c2]
    refine br_t (so_nle (by omega)) (br_c (fun q1 => so_p h (by rw [so_bs, hS, if_neg hn, decide_eq_true q1]; rfl)) (fun q1 => so_xW hs (so_br (fun q2 => so_p h (by simp [so_bs, hS, hn, c2, q2])) (fun q2 => ⟨hv2, hv, br_c (fun q3 => ⟨hv2, hv, br_c (fun q4 => so_q h (by simp [so_bs, hS, hn, c2, q1, q2, q3, q4])) (fun q4 => so_p h (by simp [so_bs, hS, hn, c2, q4]))⟩) (fun q3 => so_p h (by simp [so_bs, hS, hn, c2, q3]))⟩))))
theorem so_yf1 (he : e < 24) (hS : S e = -1 ∨ ∃ s, s < 24 ∧ S e = nI s) (h : post (so_b (so_bs K A Wt R S e))) : wpY_badSource post (nI nP, nI nW, nI nD, nI nL, nI E, ra, cd, cx, cy, ln, rg, ct, K, O, A, Wt, R, S, Pl, md, li, lt) (nI e) := by
  have c := so_cl (e := e) (by omega)
  have hv := vp_in_nI he (by decide)
  unfold wpY_badSource
  dsimp only
  rw [c]
  refine ⟨hv, fun x ex => ?_⟩
  rcases hS with hS | ⟨s, hs, hS⟩
  · rw [hS] at ex
    subst ex
    exact br_f so_n1' ⟨hv, br_c (fun q => so_q h (by simp [so_bs, hS, so_n1, q])) (fun q => so_p h (by simp [so_bs, hS, so_n1, q]))⟩
  · rw [hS] at ex
    subst ex
    have c2 := so_cl (e := s) (by omega)
    have hn := so_nlt (n := s) (by omega)
    have hv2 := vp_in_nI hs (by decide)
    rw [c2]
    refine br_t (so_nle (by omega)) (br_c (fun q1 => so_p h (by rw [so_bs, hS, if_neg hn, decide_eq_true q1]; rfl)) (fun q1 => so_yW hs (so_br (fun q2 => so_p h (by simp [so_bs, hS, hn, c2, q2])) (fun q2 => ⟨hv2, hv, br_c (fun q3 => ⟨hv2, hv, br_c (fun q4 => so_q h (by simp [so_bs, hS, hn, c2, q1, q2, q3, q4])) (fun q4 => so_p h (by simp [so_bs, hS, hn, c2, q4]))⟩) (fun q3 => so_p h (by simp [so_bs, hS, hn, c2, q3]))⟩))))
theorem so_xf2 (he : e < 24) (h : post (so_b (so_M K e && so_any (so_f2 K O Pl e) e 0))) : wpX_breaksReadOrder post (nI nP, nI nW, nI nD, nI nL, nI E, nI G, ra, ac, cd, cx, cy, ln, rg, ct, bE, bA, bV, hea, pn, wd, wr, K, O, A, Wt, R, S, Pl, nd, ar, rW, rV) (nI e) := by
  unfold wpX_breaksReadOrder
  dsimp only
  refine so_xM he (so_br (fun q => so_q h (by rw [q]; rfl)) (fun q => ?_))
  rw [q, Bool.true_and] at h
  refine ⟨e + 1, so_lany (fun n x => wX_breaksReadOrder_12 post (nI e) (nI nP) (nI nW) (nI nD) (nI nL) (nI E) (nI G) ra ac cd cx cy ln rg ct bE bA bV hea pn wd wr K O A Wt R S Pl nd ar rW rV n x) post (so_f2 K O Pl e) e (fun n hp => ?_) (fun n i hi ht hf => ?_) e 0 (e + 1) (by omega) (by omega) h⟩
  · exact br_t (nI_le (Nat.le_refl _) (by omega)) hp
  · exact br_f (nI_ge hi (by omega)) (so_xR (by omega) (so_br (fun q1 => nm_r (nI_1 i) (hf (by simp [so_f2, q1]))) (fun q1 => so_xpb (by omega) he (so_br (fun q2 => nm_r (nI_1 i) (hf (by simp [so_f2, q2]))) (fun q2 => so_xbf (by omega) he (so_br (fun q3 => ht (by simp [so_f2, q1, q2, q3])) (fun q3 => nm_r (nI_1 i) (hf (by simp [so_f2, q3])))))))))
theorem so_xf3 (he : e < 24) (h : post (so_b (so_W K e && so_any (so_f3 K O Pl e) e 0))) : wpX_breaksWriteOrder post (nI nP, nI nW, nI nD, nI nL, nI E, nI G, ra, ac, cd, cx, cy, ln, rg, ct, bE, bA, bV, hea, pn, wd, wr, K, O, A, Wt, R, S, Pl, nd, ar, rW, rV) (nI e) := by
  unfold wpX_breaksWriteOrder
  dsimp only
  refine so_xW he (so_br (fun q => so_q h (by rw [q]; rfl)) (fun q => ?_))
  rw [q, Bool.true_and] at h
  refine ⟨e + 1, so_lany (fun n x => wX_breaksWriteOrder_12 post (nI e) (nI nP) (nI nW) (nI nD) (nI nL) (nI E) (nI G) ra ac cd cx cy ln rg ct bE bA bV hea pn wd wr K O A Wt R S Pl nd ar rW rV n x) post (so_f3 K O Pl e) e (fun n hp => ?_) (fun n i hi ht hf => ?_) e 0 (e + 1) (by omega) (by omega) h⟩
  · exact br_t (nI_le (Nat.le_refl _) (by omega)) hp
  · exact br_f (nI_ge hi (by omega)) (so_xW (by omega) (so_br (fun q1 => nm_r (nI_1 i) (hf (by simp [so_f3, q1]))) (fun q1 => so_xpb (by omega) he (so_br (fun q2 => nm_r (nI_1 i) (hf (by simp [so_f3, q2]))) (fun q2 => so_xbf (by omega) he (so_br (fun q3 => ht (by simp [so_f3, q1, q2, q3])) (fun q3 => nm_r (nI_1 i) (hf (by simp [so_f3, q3])))))))))
theorem so_xg4 (he : e < 24) : ∀ (k n : Nat) (fl : Bool), k ≤ e → k < n → post (so_b (so_g4 K O Pl e k fl)) → ∀ x : Int32, x + 1 = nI k → wX_breaksFence_16 post (nI e) (nI nP) (nI nW) (nI nD) (nI nL) (nI E) (nI G) ra ac cd cx cy ln rg ct bE bA bV hea pn wd wr K O A Wt R S Pl nd ar rW rV n (so_b fl) x := by
  intro k
  induction k with
  | zero =>
    intro n fl hk hn hp x hx
    obtain ⟨m, rfl⟩ : ∃ m, n = m + 1 := ⟨n - 1, by omega⟩
    obtain rfl : x = -1 := by
      have : x + 1 + (-1) = nI 0 + (-1) := by rw [hx]
      rw [Int32.add_assoc, show (1 : Int32) + (-1) = 0 from rfl, Int32.add_zero] at this
      rw [this]
      rfl
    exact br_t so_n1 hp
  | succ k ih =>
    intro n fl hk hn hp x hx
    obtain ⟨m, rfl⟩ : ∃ m, n = m + 1 := ⟨n - 1, by omega⟩
    obtain rfl : x = nI k := by
      have : x + 1 + (-1) = nI (k + 1) + (-1) := by rw [hx]
      rw [Int32.add_assoc, show (1 : Int32) + (-1) = 0 from rfl, Int32.add_zero, pk_m1] at this
      exact this
    have c := so_cl (e := e) (by omega)
    have c2 := so_cl (e := k) (by omega)
    have hv := vp_in_nI he (by decide)
    have hv2 := vp_in_nI (n := k) (N := 24) (by omega) (by decide)
    have back : nI k + (-1) + 1 = nI k := by
      rw [Int32.add_assoc, show (-1 : Int32) + 1 = 0 from rfl, Int32.add_zero]
    rw [so_g4] at hp
    rw [wX_breaksFence_16]
    dsimp only
    rw [c, c2]
    refine br_f (so_nlt (by omega)) ⟨hv2, hv, br_c (fun q1 => ⟨hv2, br_c (fun q2 => nm_e ?_) (fun q2 => ?_)⟩) (fun q1 => nm_e ?_)⟩
    · rw [if_pos q1, if_pos q2] at hp
      exact ih m true (by omega) (by omega) hp _ back
    · rw [if_pos q1, if_neg q2] at hp
      refine so_br (fun q3 => nm_e ?_) (fun q3 => so_xW (by omega) (so_br (fun q4 => nm_e ?_) (fun q4 => so_xbf (by omega) he (so_br (fun q5 => ?_) (fun q5 => nm_e ?_)))))
      · rw [if_neg (by rw [q3]; simp)] at hp
        exact ih m fl (by omega) (by omega) hp _ back
      · rw [if_neg (by rw [q4]; simp)] at hp
        exact ih m fl (by omega) (by omega) hp _ back
      · rw [if_pos (by rw [q3, q4, q5]; rfl)] at hp
        exact hp
      · rw [if_neg (by rw [q5]; simp)] at hp
        exact ih m fl (by omega) (by omega) hp _ back
    · rw [if_neg q1] at hp
      exact ih m fl (by omega) (by omega) hp _ back
theorem so_xf4 (he : e < 24) (h : post (so_b (so_R K e && so_any (so_f4 K O Pl e) e 0))) : wpX_breaksFence post (nI nP, nI nW, nI nD, nI nL, nI E, nI G, ra, ac, cd, cx, cy, ln, rg, ct, bE, bA, bV, hea, pn, wd, wr, K, O, A, Wt, R, S, Pl, nd, ar, rW, rV) (nI e) := by
  unfold wpX_breaksFence
  dsimp only
  refine so_xR he (so_br (fun q => so_q h (by rw [q]; rfl)) (fun q => fun x ex => ?_))
  rw [q, Bool.true_and, ← so_g4_f4] at h
  refine ⟨e + 1, so_xg4 he e (e + 1) false (Nat.le_refl _) (by omega) h x ?_⟩
  rw [ex, Int32.sub_add_cancel]
end
end
section
/-! ===== walks of the rules: visible write, final value, the reference's loop ===== -/
section
variable {nP nW nD nL E G : Nat} {ra ac : Int32} {cd cx cy ln rg ct bE bA bV hea pn wd wr K O A Wt R S Pl nd ar rW rV md li lt : Nat → Int32}
variable {e d : Nat} {post : Int32 → Prop}
theorem so_xvw (he : e < 24) (hE : E ≤ 24) (h : post (so_vw K O A Pl E e)) : wpX_visibleWrite post (nI nP, nI nW, nI nD, nI nL, nI E, nI G, ra, ac, cd, cx, cy, ln, rg, ct, bE, bA, bV, hea, pn, wd, wr, K, O, A, Wt, R, S, Pl, nd, ar, rW, rV) (nI e) := by
  unfold wpX_visibleWrite
  dsimp only
  refine ⟨E + 1, so_lfold (fun n a x => wX_visibleWrite_4 post (nI e) (nI nP) (nI nW) (nI nD) (nI nL) (nI E) (nI G) ra ac cd cx cy ln rg ct bE bA bV hea pn wd wr K O A Wt R S Pl nd ar rW rV n a x) post (so_vg K O A Pl e) so_ok E (fun n a _ hp => ?_) (fun n i a hi ha hw => ?_) (fun i a _ ha => so_vg_ok ha) E 0 (E + 1) (-1) (by omega) (by omega) (Or.inl rfl) h⟩
  · exact br_t (nI_le (Nat.le_refl _) (by omega)) hp
  · have c := so_cl (e := e) (by omega)
    have c2 := so_cl (e := i) (by omega)
    have hv := vp_in_nI he (by decide)
    have hv2 := vp_in_nI (n := i) (N := 24) (by omega) (by decide)
    have hq : ∀ {b : Int32}, (∀ Q : Int32 → Prop, Q (so_vg K O A Pl e i a) → Q b) → wX_visibleWrite_4 post (nI e) (nI nP) (nI nW) (nI nD) (nI nL) (nI E) (nI G) ra ac cd cx cy ln rg ct bE bA bV hea pn wd wr K O A Wt R S Pl nd ar rW rV n b (nI (i + 1)) := fun hb => hb (fun b => wX_visibleWrite_4 post (nI e) (nI nP) (nI nW) (nI nD) (nI nL) (nI E) (nI G) ra ac cd cx cy ln rg ct bE bA bV hea pn wd wr K O A Wt R S Pl nd ar rW rV n b (nI (i + 1))) hw
    have h58 : so_W K i = true → A i = A e → ¬ i = e → (so_bf Pl i e || so_pb O i e) = true → wX_visibleWrite_63 post (wX_visibleWrite_4 post (nI e) (nI nP) (nI nW) (nI nD) (nI nL) (nI E) (nI G) ra ac cd cx cy ln rg ct bE bA bV hea pn wd wr K O A Wt R S Pl nd ar rW rV n) (nI e) a (nI i) 1 (nI nP) (nI nW) (nI nD) (nI nL) (nI E) (nI G) ra ac cd cx cy ln rg ct bE bA bV hea pn wd wr K O A Wt R S Pl nd ar rW rV := by
      intro q2 q3 q1 q4
      refine br_f (by decide) ?_
      rcases ha with rfl | ⟨j, hj, rfl⟩
      · exact br_t so_n1 (nm_r (nI_1 i) (hq (fun Q hQ => so_vg_t hQ (by simp [q1, q2, q3, so_n1]; simpa using q4))))
      · have c3 := so_cl (e := j) (by omega)
        refine br_f (so_nlt (by omega)) (so_xbf (by omega) (by omega) (so_br (fun q5 => nm_r (nI_1 i) (hq (fun Q hQ => so_vg_f hQ (by simp [so_nlt (n := j) (by omega), c3, q5])))) (fun q5 => nm_r (nI_1 i) (hq (fun Q hQ => so_vg_t hQ (by simp [c3, q1, q2, q3, q5]; simpa using q4))))))
    rw [wX_visibleWrite_4]
    dsimp only
    rw [c, c2]
    refine br_f (nI_ge hi (by omega)) (br_c (fun q1 => nm_r (nI_1 i) (hq (fun Q hQ => so_vg_f hQ (by simp [so_inj (by omega) (by omega) q1])))) (fun q1 => ?_))
    have q1' : ¬ i = e := fun z => q1 (by rw [z])
    refine so_xW (by omega) (so_br (fun q2 => nm_r (nI_1 i) (hq (fun Q hQ => so_vg_f hQ (by simp [q2])))) (fun q2 => ⟨hv2, hv, br_c (fun q3 => ?_) (fun q3 => nm_r (nI_1 i) (hq (fun Q hQ => so_vg_f hQ (by simp [q3]))))⟩))
    refine so_xbf (by omega) he (so_br (fun q4 => ?_) (fun q4 => ?_))
    · refine so_xpb (by omega) he (so_br (fun q5 => ?_) (fun q5 => ?_))
      · exact br_t rfl (nm_r (nI_1 i) (hq (fun Q hQ => so_vg_f hQ (by simp [q4, q5]))))
      · exact h58 q2 q3 q1' (by rw [q5, Bool.or_true])
    · exact h58 q2 q3 q1' (by rw [q4, Bool.true_or])
theorem so_yvw (he : e < 24) (hE : E ≤ 24) (h : post (so_vw K O A Pl E e)) : wpY_visibleWrite post (nI nP, nI nW, nI nD, nI nL, nI E, ra, cd, cx, cy, ln, rg, ct, K, O, A, Wt, R, S, Pl, md, li, lt) (nI e) := by
  unfold wpY_visibleWrite
  dsimp only
  refine ⟨E + 1, so_lfold (fun n a x => wY_visibleWrite_4 post (nI e) (nI nP) (nI nW) (nI nD) (nI nL) (nI E) ra cd cx cy ln rg ct K O A Wt R S Pl md li lt n a x) post (so_vg K O A Pl e) so_ok E (fun n a _ hp => ?_) (fun n i a hi ha hw => ?_) (fun i a _ ha => so_vg_ok ha) E 0 (E + 1) (-1) (by omega) (by omega) (Or.inl rfl) h⟩
  · exact br_t (nI_le (Nat.le_refl _) (by omega)) hp
  · have c := so_cl (e := e) (by omega)
    have c2 := so_cl (e := i) (by omega)
    have hv := vp_in_nI he (by decide)
    have hv2 := vp_in_nI (n := i) (N := 24) (by omega) (by decide)
    have hq : ∀ {b : Int32}, (∀ Q : Int32 → Prop, Q (so_vg K O A Pl e i a) → Q b) → wY_visibleWrite_4 post (nI e) (nI nP) (nI nW) (nI nD) (nI nL) (nI E) ra cd cx cy ln rg ct K O A Wt R S Pl md li lt n b (nI (i + 1)) := fun hb => hb (fun b => wY_visibleWrite_4 post (nI e) (nI nP) (nI nW) (nI nD) (nI nL) (nI E) ra cd cx cy ln rg ct K O A Wt R S Pl md li lt n b (nI (i + 1))) hw
    have h58 : so_W K i = true → A i = A e → ¬ i = e → (so_bf Pl i e || so_pb O i e) = true → wY_visibleWrite_69 post (wY_visibleWrite_4 post (nI e) (nI nP) (nI nW) (nI nD) (nI nL) (nI E) ra cd cx cy ln rg ct K O A Wt R S Pl md li lt n) (nI e) a (nI i) (nI nP) (nI nW) (nI nD) (nI nL) (nI E) ra cd cx cy ln rg ct K O A Wt R S Pl md li lt := by
      intro q2 q3 q1 q4
      rcases ha with rfl | ⟨j, hj, rfl⟩
      · exact br_t so_n1 (nm_r (nI_1 i) (hq (fun Q hQ => so_vg_t hQ (by simp [q1, q2, q3, so_n1]; simpa using q4))))
      · have c3 := so_cl (e := j) (by omega)
        refine br_f (so_nlt (by omega)) (so_ybf (by omega) (by omega) (so_br (fun q5 => nm_r (nI_1 i) (hq (fun Q hQ => so_vg_f hQ (by simp [so_nlt (n := j) (by omega), c3, q5])))) (fun q5 => nm_r (nI_1 i) (hq (fun Q hQ => so_vg_t hQ (by simp [c3, q1, q2, q3, q5]; simpa using q4))))))
    rw [wY_visibleWrite_4]
    dsimp only
    rw [c, c2]
    refine br_f (nI_ge hi (by omega)) (br_c (fun q1 => nm_r (nI_1 i) (hq (fun Q hQ => so_vg_f hQ (by simp [so_inj (by omega) (by omega) q1])))) (fun q1 => ?_))
    have q1' : ¬ i = e := fun z => q1 (by rw [z])
    refine so_yW (by omega) (so_br (fun q2 => nm_r (nI_1 i) (hq (fun Q hQ => so_vg_f hQ (by simp [q2])))) (fun q2 => ⟨hv2, hv, br_c (fun q3 => ?_) (fun q3 => nm_r (nI_1 i) (hq (fun Q hQ => so_vg_f hQ (by simp [q3]))))⟩))
    refine so_ybf (by omega) he (so_br (fun q4 => ⟨hv2, hv, br_c (fun q5 => ?_) (fun q5 => ?_)⟩) (fun q4 => ?_))
    · by_cases q6 : e ≤ i
      · exact br_t (nI_le q6 (by omega)) (nm_r (nI_1 i) (hq (fun Q hQ => so_vg_f hQ (by simp [q4, so_pb, Nat.not_lt.mpr q6]))))
      · exact br_f (nI_ge (by omega) (by omega)) (h58 q2 q3 q1' (by simp [so_pb, q5, Nat.lt_of_not_le q6]))
    · exact nm_r (nI_1 i) (hq (fun Q hQ => so_vg_f hQ (by simp [q4, so_pb, q5])))
    · exact h58 q2 q3 q1' (by rw [q4, Bool.true_or])
theorem so_xf5 (he : e < 24) (hE : E ≤ 24) (h : post (so_b (so_R K e && !decide (S e = so_vw K O A Pl E e)))) : wpX_breaksValue post (nI nP, nI nW, nI nD, nI nL, nI E, nI G, ra, ac, cd, cx, cy, ln, rg, ct, bE, bA, bV, hea, pn, wd, wr, K, O, A, Wt, R, S, Pl, nd, ar, rW, rV) (nI e) := by
  have c := so_cl (e := e) (by omega)
  have hv := vp_in_nI he (by decide)
  unfold wpX_breaksValue
  dsimp only
  rw [c]
  refine so_xR he (so_br (fun q => so_q h (by rw [q]; rfl)) (fun q => so_xvw he hE ⟨hv, br_c (fun q2 => so_q h (by simp [q2])) (fun q2 => so_p h (by simp [q, q2]))⟩))
/-- the value check behind the scan -/
theorem so_xf6 (he : e < 24) (hE : E ≤ 24) {a : Nat} (ha : a < 8) (hA : so_W K e = true → A e = nI a) (h : post (so_b (so_W K e && (decide (0 ≤ Pl e) && (!so_any (so_f6 K A Pl e) E 0 && !decide (Wt e = wd a)))))) : wpX_breaksFinal post (nI nP, nI nW, nI nD, nI nL, nI E, nI G, ra, ac, cd, cx, cy, ln, rg, ct, bE, bA, bV, hea, pn, wd, wr, K, O, A, Wt, R, S, Pl, nd, ar, rW, rV) (nI e) := by
  have c := so_cl (e := e) (by omega)
  have hv := vp_in_nI he (by decide)
  unfold wpX_breaksFinal
  dsimp only
  rw [c]
  refine so_xW he (so_br (fun q => so_q h (by rw [q]; rfl)) (fun q => ⟨hv, br_c (fun q2 => ?_) (fun q2 => so_q h (by simp [q2]))⟩))
  have hA' := hA q
  have c3 := so_cl (e := a) (by omega)
  have hv3 := vp_in_nI ha (by decide)
  rw [q, Bool.true_and, decide_eq_true q2, Bool.true_and] at h
  refine ⟨E + 1, so_lany (fun n x => wX_breaksFinal_21 post (nI e) (nI nP) (nI nW) (nI nD) (nI nL) (nI E) (nI G) ra ac cd cx cy ln rg ct bE bA bV hea pn wd wr K O A Wt R S Pl nd ar rW rV n x) (fun r => (r = 0 → (vp_in (nI e) 24 ∧ (vp_in (nI e) 24 ∧ (vp_in (A e) 8 ∧ ((Wt e = wd a → post 0) ∧ (¬ Wt e = wd a → post 1)))))) ∧ (¬ r = 0 → post 0)) (so_f6 K A Pl e) E (fun n hp => ?_) (fun n i hi ht hf => ?_) E 0 (E + 1) (by omega) (by omega) ?_⟩
  · rw [wX_breaksFinal_21]
    dsimp only
    rw [c, hA', c3, ← hA']
    exact br_t (nI_le (Nat.le_refl _) (by omega)) (hp.1 rfl)
  · have c2 := so_cl (e := i) (by omega)
    have hv2 := vp_in_nI (n := i) (N := 24) (by omega) (by decide)
    rw [wX_breaksFinal_21]
    dsimp only
    rw [c, c2]
    exact br_f (nI_ge hi (by omega)) (so_xW (by omega) (so_br (fun q1 => nm_r (nI_1 i) (hf (by simp [so_f6, q1]))) (fun q1 => ⟨hv2, hv, br_c (fun q3 => ⟨hv2, hv, br_c (fun q4 => nm_r (nI_1 i) (hf (by simp [so_f6, q4]))) (fun q4 => (ht (by simp [so_f6, q1, q3, q4])).2 (by decide))⟩) (fun q3 => nm_r (nI_1 i) (hf (by simp [so_f6, q3])))⟩)))
  · refine so_br (fun q3 => ⟨hv, hv, ?_, br_c (fun q4 => so_q h (by simp [q4])) (fun q4 => so_p h (by simp [q3, q4]))⟩) (fun q3 => so_q h (by simp [q3]))
    rw [hA']
    exact hv3
theorem so_yf6 (he : e < 24) (hE : E ≤ 24) {v : Int32} (hm : ∀ post : Int32 → Prop, post v → wpY_memory post (nI nP, nI nW, nI nD, nI nL, nI E, ra, cd, cx, cy, ln, rg, ct, K, O, A, Wt, R, S, Pl, md, li, lt) (A e)) (h : post (so_b (!so_any (so_f6 K A Pl e) E 0 && !decide (Wt e = v)))) : wpY_badFinal post (nI nP, nI nW, nI nD, nI nL, nI E, ra, cd, cx, cy, ln, rg, ct, K, O, A, Wt, R, S, Pl, md, li, lt) (nI e) := by
  have c := so_cl (e := e) (by omega)
  have hv := vp_in_nI he (by decide)
  unfold wpY_badFinal
  dsimp only
  refine ⟨E + 1, so_lany (fun n x => wY_badFinal_2 post (nI e) (nI nP) (nI nW) (nI nD) (nI nL) (nI E) ra cd cx cy ln rg ct K O A Wt R S Pl md li lt n x) (fun r => (r = 0 → ((Wt e = v → post 0) ∧ (¬ Wt e = v → post 1))) ∧ (¬ r = 0 → post 0)) (so_f6 K A Pl e) E (fun n hp => ?_) (fun n i hi ht hf => ?_) E 0 (E + 1) (by omega) (by omega) ?_⟩
  · rw [wY_badFinal_2]
    dsimp only
    rw [c]
    exact br_t (nI_le (Nat.le_refl _) (by omega)) ⟨hv, hv, hm _ (hp.1 rfl)⟩
  · have c2 := so_cl (e := i) (by omega)
    have hv2 := vp_in_nI (n := i) (N := 24) (by omega) (by decide)
    rw [wY_badFinal_2]
    dsimp only
    rw [c, c2]
    exact br_f (nI_ge hi (by omega)) (br_c (fun q0 => nm_r (nI_1 i) (hf (by rw [so_inj (by omega) (by omega) q0]; simp [so_f6]))) (fun q0 => so_yW (by omega) (so_br (fun q1 => nm_r (nI_1 i) (hf (by simp [so_f6, q1]))) (fun q1 => ⟨hv2, hv, br_c (fun q3 => ⟨hv2, hv, br_c (fun q4 => nm_r (nI_1 i) (hf (by simp [so_f6, q4]))) (fun q4 => (ht (by simp [so_f6, q1, q3, q4])).2 (by decide))⟩) (fun q3 => nm_r (nI_1 i) (hf (by simp [so_f6, q3])))⟩))))
  · exact so_br (fun q3 => br_c (fun q4 => so_q h (by simp [q4])) (fun q4 => so_p h (by simp [q3, q4]))) (fun q3 => so_q h (by simp [q3]))
theorem so_ybt (he : e < 24) (hd : d < e) {x y : Int32} (h : post (so_b (so_bt K O x y d e))) : wpY_between post (nI nP, nI nW, nI nD, nI nL, nI E, ra, cd, cx, cy, ln, rg, ct, K, O, A, Wt, R, S, Pl, md, li, lt) (nI d) (nI e) x y := by
  have c := so_cl (e := e) (by omega)
  have hv := vp_in_nI he (by decide)
  unfold wpY_between
  dsimp only
  refine nm_r (nI_1 d) ⟨e + 1, so_lany (fun n z => wY_between_5 post (nI e) x y (nI nP) (nI nW) (nI nD) (nI nL) (nI E) ra cd cx cy ln rg ct K O A Wt R S Pl md li lt n z) post (so_btf K O x y e) e (fun n hp => ?_) (fun n i hi ht hf => ?_) (e - (d + 1)) (d + 1) (e + 1) (by omega) (by omega) h⟩
  · exact br_t (nI_le (Nat.le_refl _) (by omega)) hp
  · have c2 := so_cl (e := i) (by omega)
    have hv2 := vp_in_nI (n := i) (N := 24) (by omega) (by decide)
    rw [wY_between_5]
    dsimp only
    rw [c, c2]
    exact br_f (nI_ge hi (by omega)) ⟨hv2, hv, br_c (fun q1 => ⟨hv2, br_c (fun q2 => ht (by simp [so_btf, q1, q2])) (fun q2 => ⟨hv2, br_c (fun q3 => ht (by simp [so_btf, q1, q3])) (fun q3 => nm_r (nI_1 i) (hf (by simp [so_btf, q2, q3])))⟩)⟩) (fun q1 => nm_r (nI_1 i) (hf (by simp [so_btf, q1])))⟩
/-- the loop of the reference over earlier events, for the rules 2, 3 and 4 -/
theorem so_y99 (x1 : Int32) (he : e < 24) (f : Nat → Bool)
    (hf : ∀ i J, i < e → O i = O e → so_bf Pl i e = false → (f i = true → post 1) → (f i = false → J (nI (i + 1))) →
      ((x1 = 2 → (vp_in (nI e) 24 ∧ ((K e = 5 → wY_atFault_153 post J x1 (nI e) (nI i) (nI nP) (nI nW) (nI nD) (nI nL) (nI E) ra cd cx cy ln rg ct K O A Wt R S Pl md li lt) ∧ (¬ K e = 5 → wpY_isRead (fun r => ((r = 0 → wY_atFault_153 post J x1 (nI e) (nI i) (nI nP) (nI nW) (nI nD) (nI nL) (nI E) ra cd cx cy ln rg ct K O A Wt R S Pl md li lt) ∧ (¬ r = 0 → post 1))) (nI nP, nI nW, nI nD, nI nL, nI E, ra, cd, cx, cy, ln, rg, ct, K, O, A, Wt, R, S, Pl, md, li, lt) (nI i))))) ∧ (¬ x1 = 2 → wY_atFault_153 post J x1 (nI e) (nI i) (nI nP) (nI nW) (nI nD) (nI nL) (nI E) ra cd cx cy ln rg ct K O A Wt R S Pl md li lt)))
    (h : post (so_b (so_any (fun d => decide (O d = O e) && (!so_bf Pl d e && f d)) e 0))) : ∃ n, wY_atFault_99 post x1 (nI e) (nI nP) (nI nW) (nI nD) (nI nL) (nI E) ra cd cx cy ln rg ct K O A Wt R S Pl md li lt n 0 := by
  have c := so_cl (e := e) (by omega)
  have hv := vp_in_nI he (by decide)
  refine ⟨e + 1, so_lany (fun n z => wY_atFault_99 post x1 (nI e) (nI nP) (nI nW) (nI nD) (nI nL) (nI E) ra cd cx cy ln rg ct K O A Wt R S Pl md li lt n z) post (fun d => decide (O d = O e) && (!so_bf Pl d e && f d)) e (fun n hp => ?_) (fun n i hi ht hg => ?_) e 0 (e + 1) (by omega) (by omega) h⟩
  · exact br_t (nI_le (Nat.le_refl _) (by omega)) hp
  · have c2 := so_cl (e := i) (by omega)
    have hv2 := vp_in_nI (n := i) (N := 24) (by omega) (by decide)
    rw [wY_atFault_99]
    dsimp only
    rw [c, c2]
    refine br_f (nI_ge hi (by omega)) ⟨hv2, hv, br_c (fun q1 => so_ybf (by omega) he (so_br (fun q2 => ?_) (fun q2 => nm_r (nI_1 i) (hg (by simp [q2]))))) (fun q1 => nm_r (nI_1 i) (hg (by simp [q1])))⟩
    exact hf i _ hi q1 q2 (fun q3 => ht (by simp [q1, q2, q3])) (fun q3 => hg (by simp [q3]))
theorem so_y176 (he : e < 24) {i : Nat} (hi : i < e) {J : Int32 → Prop} (x1 : Int32) (h4 : ¬ x1 = 4) (h : J (nI (i + 1))) : wY_atFault_176 post J x1 (nI e) (nI i) (nI nP) (nI nW) (nI nD) (nI nL) (nI E) ra cd cx cy ln rg ct K O A Wt R S Pl md li lt := by
  unfold wY_atFault_176
  exact br_f h4 (nm_r (nI_1 i) h)
theorem so_y153 (he : e < 24) {i : Nat} (hi : i < e) {J : Int32 → Prop} (x1 : Int32) (h3 : ¬ x1 = 3) (h4 : ¬ x1 = 4) (h : J (nI (i + 1))) : wY_atFault_153 post J x1 (nI e) (nI i) (nI nP) (nI nW) (nI nD) (nI nL) (nI E) ra cd cx cy ln rg ct K O A Wt R S Pl md li lt := by
  unfold wY_atFault_153
  exact br_f h3 (so_y176 he hi x1 h4 h)
theorem so_yf2 (he : e < 24) (h : post (so_b (so_M K e && so_any (so_f2 K O Pl e) e 0))) : ∃ n, wY_atFault_99 post 2 (nI e) (nI nP) (nI nW) (nI nD) (nI nL) (nI E) ra cd cx cy ln rg ct K O A Wt R S Pl md li lt n 0 := by
  have hv := vp_in_nI he (by decide)
  refine so_y99 2 he (fun d => so_M K e && so_R K d) (fun i J hi q1 q2 ht hf => br_t rfl ⟨hv, br_c (fun q3 => so_y153 he hi 2 (by decide) (by decide) (hf (by simp [so_M, q3]))) (fun q3 => so_yR (by omega) (so_br (fun q4 => so_y153 he hi 2 (by decide) (by decide) (hf (by simp [q4]))) (fun q4 => ht (by simp [so_M, q3, q4]))))⟩) ?_
  rw [← so_any_and] at h
  rw [so_any_c (g := fun d => so_M K e && so_f2 K O Pl e d)]
  · exact h
  · intro j _ hj
    have : decide (j < e) = true := decide_eq_true (by omega)
    simp only [so_f2, so_pb, this, Bool.true_and]
    cases decide (O j = O e) <;> cases so_bf Pl j e <;> cases so_M K e <;> cases so_R K j <;> rfl
theorem so_yf3 (he : e < 24) (h : post (so_b (so_W K e && so_any (so_f3 K O Pl e) e 0))) : ∃ n, wY_atFault_99 post 3 (nI e) (nI nP) (nI nW) (nI nD) (nI nL) (nI E) ra cd cx cy ln rg ct K O A Wt R S Pl md li lt n 0 := by
  have hv := vp_in_nI he (by decide)
  refine so_y99 3 he (fun d => so_W K e && so_W K d) (fun i J hi q1 q2 ht hf => br_f (by decide) ?_) ?_
  · unfold wY_atFault_153
    exact br_t rfl (so_yW he (so_br (fun q3 => so_y176 he hi 3 (by decide) (hf (by simp [q3]))) (fun q3 => so_yW (by omega) (so_br (fun q4 => so_y176 he hi 3 (by decide) (hf (by simp [q4]))) (fun q4 => ht (by simp [q3, q4]))))))
  · rw [← so_any_and] at h
    rw [so_any_c (g := fun d => so_W K e && so_f3 K O Pl e d)]
    · exact h
    · intro j _ hj
      have : decide (j < e) = true := decide_eq_true (by omega)
      simp only [so_f3, so_pb, this, Bool.true_and]
      cases decide (O j = O e) <;> cases so_bf Pl j e <;> cases so_W K e <;> cases so_W K j <;> rfl
theorem so_yf4 (he : e < 24) (h : post (so_b (so_R K e && so_any (so_f4 K O Pl e) e 0))) : ∃ n, wY_atFault_99 post 4 (nI e) (nI nP) (nI nW) (nI nD) (nI nL) (nI E) ra cd cx cy ln rg ct K O A Wt R S Pl md li lt n 0 := by
  have hv := vp_in_nI he (by decide)
  refine so_y99 4 he (fun d => so_R K e && (so_W K d && so_bt K O 5 5 d e)) (fun i J hi q1 q2 ht hf => br_f (by decide) ?_) ?_
  · unfold wY_atFault_153
    refine br_f (by decide) ?_
    unfold wY_atFault_176
    exact br_t rfl (so_yR he (so_br (fun q3 => nm_r (nI_1 i) (hf (by simp [q3]))) (fun q3 => so_yW (by omega) (so_br (fun q4 => nm_r (nI_1 i) (hf (by simp [q4]))) (fun q4 => so_ybt he hi (so_br (fun q5 => nm_r (nI_1 i) (hf (by simp [q5]))) (fun q5 => ht (by simp [q3, q4, q5]))))))))
  · rw [← so_any_and] at h
    rw [so_any_c (g := fun d => so_R K e && so_f4 K O Pl e d)]
    · exact h
    · intro j _ hj
      simp only [so_f4]
      cases decide (O j = O e) <;> cases so_bf Pl j e <;> cases so_R K e <;> cases so_W K j <;> cases so_bt K O 5 5 j e <;> rfl
/-- the boolean of one rule at one event -/
def so_af (K O A Wt R S Pl wd : Nat → Int32) (E : Nat) (x : Nat) (e : Nat) : Bool :=
  if x = 1 then so_R K e && so_bs K A Wt R S e else
  if x = 2 then so_M K e && so_any (so_f2 K O Pl e) e 0 else
  if x = 3 then so_W K e && so_any (so_f3 K O Pl e) e 0 else
  if x = 4 then so_R K e && so_any (so_f4 K O Pl e) e 0 else
  if x = 5 then so_R K e && !decide (S e = so_vw K O A Pl E e) else
  so_W K e && (decide (0 ≤ Pl e) && (!so_any (so_f6 K A Pl e) E 0 && !decide (Wt e = wd (A e).toNatClampNeg)))
theorem so_xaf (hE : E ≤ 24) (he : e < E) (hS : S e = -1 ∨ ∃ s, s < 24 ∧ S e = nI s) (hA : so_W K e = true → ∃ a, a < 8 ∧ A e = nI a) {x : Nat} (h1 : 1 ≤ x) (h6 : x ≤ 6) (h : post (so_b (so_af K O A Wt R S Pl wd E x e))) : wpX_isAtFault post (nI nP, nI nW, nI nD, nI nL, nI E, nI G, ra, ac, cd, cx, cy, ln, rg, ct, bE, bA, bV, hea, pn, wd, wr, K, O, A, Wt, R, S, Pl, nd, ar, rW, rV) (nI x) (nI e) := by
  have he' : e < 24 := by omega
  unfold wpX_isAtFault
  dsimp only
  obtain rfl | rfl | rfl | rfl | rfl | rfl : x = 1 ∨ x = 2 ∨ x = 3 ∨ x = 4 ∨ x = 5 ∨ x = 6 := by omega
  · exact br_f (by decide) (br_f (by decide) (br_t (by decide) (so_xf1 he' hS ⟨so_nb _, h⟩)))
  · exact br_f (by decide) (br_f (by decide) (br_f (by decide) (br_t (by decide) (so_xf2 he' ⟨so_nb _, h⟩))))
  · exact br_f (by decide) (br_f (by decide) (br_f (by decide) (br_f (by decide) (br_t (by decide) (so_xf3 he' ⟨so_nb _, h⟩)))))
  · exact br_f (by decide) (br_f (by decide) (br_f (by decide) (br_f (by decide) (br_f (by decide) (br_t (by decide) (so_xf4 he' ⟨so_nb _, h⟩))))))
  · exact br_f (by decide) (br_f (by decide) (br_f (by decide) (br_f (by decide) (br_f (by decide) (br_f (by decide) (br_t (by decide) (so_xf5 he' hE ⟨so_nb _, h⟩)))))))
  · refine br_f (by decide) (br_f (by decide) (br_f (by decide) (br_f (by decide) (br_f (by decide) (br_f (by decide) (br_f (by decide) (br_t (by decide) ?_)))))))
    by_cases hw : so_W K e = true
    · obtain ⟨a, ha, hA'⟩ := hA hw
      refine so_xf6 he' hE ha (fun _ => hA') ⟨so_nb _, ?_⟩
      have c := so_cl (e := a) (by omega)
      have hx : so_af K O A Wt R S Pl wd E 6 e = (so_W K e && (decide (0 ≤ Pl e) && (!so_any (so_f6 K A Pl e) E 0 && !decide (Wt e = wd a)))) := by
        show (so_W K e && (decide (0 ≤ Pl e) && (!so_any (so_f6 K A Pl e) E 0 && !decide (Wt e = wd (A e).toNatClampNeg)))) = _
        rw [hA', c]
      rw [hx] at h
      exact h
    · have hw' := Bool.eq_false_iff.mpr hw
      refine so_xf6 (a := 0) he' hE (by decide) (fun z => absurd z hw) ⟨so_nb _, ?_⟩
      have hx : so_af K O A Wt R S Pl wd E 6 e = false := by
        show (so_W K e && _) = false
        rw [hw', Bool.false_and]
      rw [hw', Bool.false_and]
      rw [hx] at h
      exact h
theorem so_yaf (hE : E ≤ 24) (he : e < E) (hS : S e = -1 ∨ ∃ s, s < 24 ∧ S e = nI s) (hA : so_W K e = true → ∃ a, a < 8 ∧ A e = nI a ∧ ∀ post : Int32 → Prop, post (wd a) → wpY_memory post (nI nP, nI nW, nI nD, nI nL, nI E, ra, cd, cx, cy, ln, rg, ct, K, O, A, Wt, R, S, Pl, md, li, lt) (nI a)) {x : Nat} (h1 : 1 ≤ x) (h6 : x ≤ 6) (h : post (so_b (so_af K O A Wt R S Pl wd E x e))) : wpY_atFault post (nI nP, nI nW, nI nD, nI nL, nI E, ra, cd, cx, cy, ln, rg, ct, K, O, A, Wt, R, S, Pl, md, li, lt) (nI x) (nI e) := by
  have he' : e < 24 := by omega
  have c := so_cl (e := e) (by omega)
  have hv := vp_in_nI he' (by decide)
  unfold wpY_atFault
  dsimp only
  rw [c]
  obtain rfl | rfl | rfl | rfl | rfl | rfl : x = 1 ∨ x = 2 ∨ x = 3 ∨ x = 4 ∨ x = 5 ∨ x = 6 := by omega
  · have hx : so_af K O A Wt R S Pl wd E 1 e = (so_R K e && so_bs K A Wt R S e) := rfl
    rw [hx] at h
    exact br_t (by decide) (so_yR he' (so_br (fun q => so_q h (by rw [q]; rfl)) (fun q => so_yf1 he' hS (so_br (fun q2 => so_q h (by rw [q2, Bool.and_false])) (fun q2 => so_p h (by rw [q, q2]; rfl))))))
  · exact br_f (by decide) (br_f (by decide) (br_f (by decide) (so_yf2 he' h)))
  · exact br_f (by decide) (br_f (by decide) (br_f (by decide) (so_yf3 he' h)))
  · exact br_f (by decide) (br_f (by decide) (br_f (by decide) (so_yf4 he' h)))
  · have hx : so_af K O A Wt R S Pl wd E 5 e = (so_R K e && !decide (S e = so_vw K O A Pl E e)) := rfl
    rw [hx] at h
    exact br_f (by decide) (br_t (by decide) (so_yR he' (so_br (fun q => so_q h (by rw [q]; rfl)) (fun q => ⟨hv, so_yvw he' hE (br_c (fun q2 => so_q h (by simp [q2])) (fun q2 => so_p h (by simp [q, q2])))⟩))))
  · have hx : so_af K O A Wt R S Pl wd E 6 e = (so_W K e && (decide (0 ≤ Pl e) && (!so_any (so_f6 K A Pl e) E 0 && !decide (Wt e = wd (A e).toNatClampNeg)))) := rfl
    rw [hx] at h
    refine br_f (by decide) (br_f (by decide) (br_t (by decide) (so_yW he' (so_br (fun q => so_q h (by rw [q]; rfl)) (fun q => ⟨hv, br_c (fun q2 => so_q h (by simp [Int32.not_le.mpr q2])) (fun q2 => ?_)⟩)))))
    obtain ⟨a, ha, hA', hm⟩ := hA q
    have c2 := so_cl (e := a) (by omega)
    rw [q, Bool.true_and, decide_eq_true (Int32.not_lt.mp q2), Bool.true_and, hA', c2] at h
    rw [← hA'] at hm
    exact so_yf6 he' hE hm (so_br (fun q3 => so_q h q3) (fun q3 => so_p h q3))
end
end
section
/-! ===== what must precede: one boolean, met by both sides ===== -/
def so_oP (m : Int32) (K O : Nat → Int32) (d e : Nat) : Bool := so_pb O d e && (decide (m = 0) || (!decide (K d = 4) || (!decide (K e = 3) || so_bt K O 5 6 d e)))
def so_oS (m : Int32) (K O S : Nat → Int32) (d e : Nat) : Bool := so_R K e && (decide (S e = nI d) && (decide (m = 0) || !decide (O d = O e)))
def so_oW (K A Pl : Nat → Int32) (d e : Nat) : Bool := so_W K d && (so_W K e && (decide (A d = A e) && so_bf Pl d e))
def so_oO (K A S Pl : Nat → Int32) (d e : Nat) : Bool := so_R K d && (so_W K e && (decide (A d = A e) && (decide (S d < 0) || so_bf Pl (S d).toNatClampNeg e)))
def so_mp (m : Int32) (K O A S Pl : Nat → Int32) (d e : Nat) : Bool := so_oP m K O d e || (so_oS m K O S d e || (so_oW K A Pl d e || so_oO K A S Pl d e))
section
variable {nP nW nD nL E G : Nat} {ra ac : Int32} {cd cx cy ln rg ct bE bA bV hea pn wd wr K O A Wt R S Pl nd ar rW rV md li lt : Nat → Int32}
variable {e d : Nat} {post : Int32 → Prop} {m : Int32}
theorem so_xoP (hd : d < 24) (he : e < 24) (h : post (so_b (so_oP m K O d e))) : wpX_orderedByProgram post (nI nP, nI nW, nI nD, nI nL, nI E, nI G, ra, ac, cd, cx, cy, ln, rg, ct, bE, bA, bV, hea, pn, wd, wr, K, O, A, Wt, R, S, Pl, nd, ar, rW, rV) m (nI d) (nI e) := by
  have c := so_cl (e := e) (by omega)
  have c2 := so_cl (e := d) (by omega)
  have hv := vp_in_nI he (by decide)
  have hv2 := vp_in_nI hd (by decide)
  unfold wpX_orderedByProgram
  dsimp only
  rw [c, c2]
  refine so_xpb hd he (so_br (fun q => so_q h (by simp [so_oP, q])) (fun q => br_c (fun q1 => so_p h (by simp [so_oP, q, q1])) (fun q1 => ⟨hv2, br_c (fun q2 => ⟨hv, br_c (fun q3 => nm_r (nI_1 d) ?_) (fun q3 => so_p h (by simp [so_oP, q, q3]))⟩) (fun q2 => so_p h (by simp [so_oP, q, q2]))⟩)))
  have hde : d < e := by
    simp only [so_pb, Bool.and_eq_true, decide_eq_true_eq] at q
    exact q.1
  have hx : so_oP m K O d e = so_bt K O 5 6 d e := by simp [so_oP, q, q1, q2, q3]
  rw [hx] at h
  refine ⟨e + 1, so_lany (fun n z => wX_orderedByProgram_42 post (nI e) (nI nP) (nI nW) (nI nD) (nI nL) (nI E) (nI G) ra ac cd cx cy ln rg ct bE bA bV hea pn wd wr K O A Wt R S Pl nd ar rW rV n z) post (so_btf K O 5 6 e) e (fun n hp => ?_) (fun n i hi ht hf => ?_) (e - (d + 1)) (d + 1) (e + 1) (by omega) (by omega) h⟩
  · exact br_t (nI_le (Nat.le_refl _) (by omega)) hp
  · have c3 := so_cl (e := i) (by omega)
    have hv3 := vp_in_nI (n := i) (N := 24) (by omega) (by decide)
    rw [wX_orderedByProgram_42]
    dsimp only
    rw [c, c3]
    exact br_f (nI_ge hi (by omega)) ⟨hv3, hv, br_c (fun q1 => ⟨hv3, br_c (fun q2 => ht (by simp [so_btf, q1, q2])) (fun q2 => ⟨hv3, br_c (fun q3 => ht (by simp [so_btf, q1, q3])) (fun q3 => nm_r (nI_1 i) (hf (by simp [so_btf, q2, q3])))⟩)⟩) (fun q1 => nm_r (nI_1 i) (hf (by simp [so_btf, q1])))⟩
theorem so_xoS (hd : d < 24) (he : e < 24) (h : post (so_b (so_oS m K O S d e))) : wpX_orderedBySource post (nI nP, nI nW, nI nD, nI nL, nI E, nI G, ra, ac, cd, cx, cy, ln, rg, ct, bE, bA, bV, hea, pn, wd, wr, K, O, A, Wt, R, S, Pl, nd, ar, rW, rV) m (nI d) (nI e) := by
  have c := so_cl (e := e) (by omega)
  have c2 := so_cl (e := d) (by omega)
  have hv := vp_in_nI he (by decide)
  have hv2 := vp_in_nI hd (by decide)
  unfold wpX_orderedBySource
  dsimp only
  rw [c, c2]
  exact so_xR he (so_br (fun q => so_q h (by simp [so_oS, q])) (fun q => ⟨hv, br_c (fun q1 => br_c (fun q2 => so_p h (by simp [so_oS, q, q1, q2])) (fun q2 => ⟨hv2, hv, br_c (fun q3 => so_q h (by simp [so_oS, q2, q3])) (fun q3 => so_p h (by simp [so_oS, q, q1, q3]))⟩)) (fun q1 => so_q h (by simp [so_oS, q1]))⟩))
theorem so_xoW (hd : d < 24) (he : e < 24) (h : post (so_b (so_oW K A Pl d e))) : wpX_orderedByWrites post (nI nP, nI nW, nI nD, nI nL, nI E, nI G, ra, ac, cd, cx, cy, ln, rg, ct, bE, bA, bV, hea, pn, wd, wr, K, O, A, Wt, R, S, Pl, nd, ar, rW, rV) (nI d) (nI e) := by
  have c := so_cl (e := e) (by omega)
  have c2 := so_cl (e := d) (by omega)
  have hv := vp_in_nI he (by decide)
  have hv2 := vp_in_nI hd (by decide)
  unfold wpX_orderedByWrites
  dsimp only
  rw [c, c2]
  exact so_xW hd (so_br (fun q => so_q h (by simp [so_oW, q])) (fun q => so_xW he (so_br (fun q1 => so_q h (by simp [so_oW, q1])) (fun q1 => ⟨hv2, hv, br_c (fun q2 => so_xbf hd he (so_br (fun q3 => so_q h (by simp [so_oW, q3])) (fun q3 => so_p h (by simp [so_oW, q, q1, q2, q3])))) (fun q2 => so_q h (by simp [so_oW, q2]))⟩))))
theorem so_xoO (hd : d < 24) (he : e < 24) (hS : S d = -1 ∨ ∃ s, s < 24 ∧ S d = nI s) (h : post (so_b (so_oO K A S Pl d e))) : wpX_orderedByOverwriting post (nI nP, nI nW, nI nD, nI nL, nI E, nI G, ra, ac, cd, cx, cy, ln, rg, ct, bE, bA, bV, hea, pn, wd, wr, K, O, A, Wt, R, S, Pl, nd, ar, rW, rV) (nI d) (nI e) := by
  have c := so_cl (e := e) (by omega)
  have c2 := so_cl (e := d) (by omega)
  have hv := vp_in_nI he (by decide)
  have hv2 := vp_in_nI hd (by decide)
  unfold wpX_orderedByOverwriting
  dsimp only
  rw [c, c2]
  refine so_xR hd (so_br (fun q => so_q h (by simp [so_oO, q])) (fun q => so_xW he (so_br (fun q1 => so_q h (by simp [so_oO, q1])) (fun q1 => ⟨hv2, hv, br_c (fun q2 => ⟨hv2, fun x ex => ?_⟩) (fun q2 => so_q h (by simp [so_oO, q2]))⟩))))
  rcases hS with hS | ⟨s, hs, hS⟩
  · rw [hS] at ex
    subst ex
    exact br_f so_n1' (so_p h (by simp [so_oO, q, q1, q2, hS, so_n1]))
  · rw [hS] at ex
    subst ex
    have c3 := so_cl (e := s) (by omega)
    have hx : so_oO K A S Pl d e = so_bf Pl s e := by simp [so_oO, q, q1, q2, hS, c3, so_nlt (n := s) (by omega)]
    rw [hx] at h
    exact br_t (so_nle (by omega)) (so_xbf hs he ⟨so_nb _, h⟩)
theorem so_xmp (hd : d < 24) (he : e < 24) (hS : S d = -1 ∨ ∃ s, s < 24 ∧ S d = nI s) (h : post (so_b (so_mp m K O A S Pl d e))) : wpX_mustPrecede post (nI nP, nI nW, nI nD, nI nL, nI E, nI G, ra, ac, cd, cx, cy, ln, rg, ct, bE, bA, bV, hea, pn, wd, wr, K, O, A, Wt, R, S, Pl, nd, ar, rW, rV) m (nI d) (nI e) := by
  unfold wpX_mustPrecede
  dsimp only
  exact so_xoP hd he (so_br (fun q => so_xoS hd he (so_br (fun q1 => so_xoW hd he (so_br (fun q2 => so_xoO hd he hS (so_br (fun q3 => so_q h (by simp [so_mp, q, q1, q2, q3])) (fun q3 => so_p h (by simp [so_mp, q3])))) (fun q2 => so_p h (by simp [so_mp, q2])))) (fun q1 => so_p h (by simp [so_mp, q1])))) (fun q => so_p h (by simp [so_mp, q])))
theorem so_y154 (hd : d < 24) (he : e < 24) (hS : S d = -1 ∨ ∃ s, s < 24 ∧ S d = nI s) (q1 : so_W K e = true) (q2 : A d = A e) (h : post (so_b (so_oO K A S Pl d e))) : wY_mustPrecede_154 post (nI d) (nI e) (nI nP) (nI nW) (nI nD) (nI nL) (nI E) ra cd cx cy ln rg ct K O A Wt R S Pl md li lt := by
  have c2 := so_cl (e := d) (by omega)
  have hv2 := vp_in_nI hd (by decide)
  unfold wY_mustPrecede_154
  rw [c2]
  refine so_yR hd (so_br (fun q => so_q h (by simp [so_oO, q])) (fun q => ⟨hv2, fun x ex => ?_⟩))
  rcases hS with hS | ⟨s, hs, hS⟩
  · rw [hS] at ex
    subst ex
    exact br_f so_n1' (so_p h (by simp [so_oO, q, q1, q2, hS, so_n1]))
  · rw [hS] at ex
    subst ex
    have c3 := so_cl (e := s) (by omega)
    have hx : so_oO K A S Pl d e = so_bf Pl s e := by simp [so_oO, q, q1, q2, hS, c3, so_nlt (n := s) (by omega)]
    rw [hx] at h
    exact br_t (so_nle (by omega)) (so_ybf hs he ⟨so_nb _, h⟩)
theorem so_y110 (hd : d < 24) (he : e < 24) (hS : S d = -1 ∨ ∃ s, s < 24 ∧ S d = nI s) (h : post (so_b (so_oW K A Pl d e || so_oO K A S Pl d e))) : wY_mustPrecede_110 post (nI d) (nI e) (nI nP) (nI nW) (nI nD) (nI nL) (nI E) ra cd cx cy ln rg ct K O A Wt R S Pl md li lt := by
  have c := so_cl (e := e) (by omega)
  have c2 := so_cl (e := d) (by omega)
  have hv := vp_in_nI he (by decide)
  have hv2 := vp_in_nI hd (by decide)
  unfold wY_mustPrecede_110
  rw [c, c2]
  refine so_yW he (so_br (fun q => so_q h (by simp [so_oW, so_oO, q])) (fun q => ⟨hv2, hv, br_c (fun q1 => so_yW hd (so_br (fun q2 => so_y154 hd he hS q q1 ?_) (fun q2 => so_ybf hd he (so_br (fun q3 => so_y154 hd he hS q q1 ?_) (fun q3 => so_p h (by simp [so_oW, q, q1, q2, q3])))))) (fun q1 => so_q h (by simp [so_oW, so_oO, q1]))⟩))
  · rw [show so_oW K A Pl d e = false by simp [so_oW, q2], Bool.false_or] at h
    exact h
  · rw [show so_oW K A Pl d e = false by simp [so_oW, q3], Bool.false_or] at h
    exact h
theorem so_y71 (hd : d < 24) (he : e < 24) (hS : S d = -1 ∨ ∃ s, s < 24 ∧ S d = nI s) (h : post (so_b (so_oS m K O S d e || (so_oW K A Pl d e || so_oO K A S Pl d e)))) : wY_mustPrecede_71 post m (nI d) (nI e) (nI nP) (nI nW) (nI nD) (nI nL) (nI E) ra cd cx cy ln rg ct K O A Wt R S Pl md li lt := by
  have c := so_cl (e := e) (by omega)
  have c2 := so_cl (e := d) (by omega)
  have hv := vp_in_nI he (by decide)
  have hv2 := vp_in_nI hd (by decide)
  have h0 : so_oS m K O S d e = false → wY_mustPrecede_110 post (nI d) (nI e) (nI nP) (nI nW) (nI nD) (nI nL) (nI E) ra cd cx cy ln rg ct K O A Wt R S Pl md li lt := by
    intro q
    rw [q, Bool.false_or] at h
    exact so_y110 hd he hS h
  unfold wY_mustPrecede_71
  rw [c, c2]
  exact so_yR he (so_br (fun q => h0 (by simp [so_oS, q])) (fun q => ⟨hv, br_c (fun q1 => br_c (fun q2 => so_p h (by simp [so_oS, q, q1, q2])) (fun q2 => ⟨hv2, hv, br_c (fun q3 => h0 (by simp [so_oS, q2, q3])) (fun q3 => so_p h (by simp [so_oS, q, q1, q3]))⟩)) (fun q1 => h0 (by simp [so_oS, q1]))⟩))
theorem so_ymp (hm : m = 0 ∨ m = 1) (hd : d < 24) (he : e < 24) (hS : S d = -1 ∨ ∃ s, s < 24 ∧ S d = nI s) (h : post (so_b (so_mp m K O A S Pl d e))) : wpY_mustPrecede post (nI nP, nI nW, nI nD, nI nL, nI E, ra, cd, cx, cy, ln, rg, ct, K, O, A, Wt, R, S, Pl, md, li, lt) m (nI d) (nI e) := by
  have c := so_cl (e := e) (by omega)
  have c2 := so_cl (e := d) (by omega)
  have hv := vp_in_nI he (by decide)
  have hv2 := vp_in_nI hd (by decide)
  have h0 : so_oP m K O d e = false → wY_mustPrecede_71 post m (nI d) (nI e) (nI nP) (nI nW) (nI nD) (nI nL) (nI E) ra cd cx cy ln rg ct K O A Wt R S Pl md li lt := by
    intro q
    rw [so_mp, q, Bool.false_or] at h
    exact so_y71 hd he hS h
  have h1 : so_oP m K O d e = true → wY_mustPrecede_61 post m (nI d) (nI e) (nI nP) (nI nW) (nI nD) (nI nL) (nI E) ra cd cx cy ln rg ct K O A Wt R S Pl md li lt := by
    intro q
    unfold wY_mustPrecede_61 wY_mustPrecede_62
    exact br_t rfl (so_p h (by simp [so_mp, q]))
  unfold wpY_mustPrecede
  dsimp only
  rw [c, c2]
  refine ⟨hv2, hv, br_c (fun q => ?_) (fun q => h0 (by simp [so_oP, so_pb, q]))⟩
  by_cases hde : d < e
  · refine br_f (nI_ge hde (by omega)) (br_c (fun q1 => ⟨hv2, br_c (fun q2 => ⟨hv, br_c (fun q3 => so_ybt he hde (so_br (fun q4 => ?_) (fun q4 => h1 (by simp [so_oP, so_pb, q, hde, q4])))) (fun q3 => h1 (by simp [so_oP, so_pb, q, hde, q3]))⟩) (fun q2 => h1 (by simp [so_oP, so_pb, q, hde, q2]))⟩) (fun q1 => h1 (by simp [so_oP, so_pb, q, hde, hm.resolve_right q1])))
    unfold wY_mustPrecede_62
    refine br_f (by decide) (h0 ?_)
    have q5 : ¬ m = 0 := by
      rw [q1]
      decide
    simp [so_oP, q2, q3, q4, q5]
  · exact br_t (nI_le (by omega) (by omega)) (h0 (by simp [so_oP, so_pb, hde]))
end
end
section
/-! ===== the arrangement as a pure list; bits ===== -/
/-- d must be listed before e -/
def so_nd (m : Int32) (K O A S Pl : Nat → Int32) (e d : Nat) : Bool := !decide (d = e) && (so_M K d && so_mp m K O A S Pl d e)
def so_ng (m : Int32) (K O A S Pl : Nat → Int32) (e d : Nat) (s : Int32) : Int32 := if so_nd m K O A S Pl e d = true then s ||| ((1 : Int32) <<< (nI d &&& 31)) else s
def so_ns (m : Int32) (K O A S Pl : Nat → Int32) (E e : Nat) : Int32 := if so_M K e = true then so_fold (so_ng m K O A S Pl e) E 0 0 else 0
/-- e may be listed next -/
def so_rdy (m : Int32) (K O A S Pl : Nat → Int32) (E : Nat) (l : Nat → Bool) (e : Nat) : Bool := so_M K e && (!l e && !so_any (fun d => so_nd m K O A S Pl e d && !l d) E 0)
def so_set (l : Nat → Bool) (e : Nat) : Nat → Bool := fun j => decide (j = e) || l j
def so_go (f : (Nat → Bool) → Nat → Bool) (E : Nat) : Nat → (Nat → Bool) → List Nat
  | 0, _ => []
  | k + 1, l => if so_fst (f l) E 0 < 0 then [] else (so_fst (f l) E 0).toNatClampNeg :: so_go f E k (so_set l (so_fst (f l) E 0).toNatClampNeg)
theorem so_b1' : ∀ j, j < 32 → bt 1 j = decide (j = 0) := by decide +kernel
theorem so_bsh {d j : Nat} (hd : d < 24) (hj : j < 32) : bt ((1 : Int32) <<< (nI d &&& 31)) j = decide (j = d) := by
  rw [b_shl d (by omega) 1 hj]
  by_cases h : d ≤ j
  · rw [decide_eq_true h, Bool.true_and, so_b1' _ (by omega)]
    by_cases q : j = d
    · rw [decide_eq_true q, decide_eq_true (by omega)]
    · rw [decide_eq_false q, decide_eq_false (by omega)]
  · rw [decide_eq_false h, Bool.false_and, decide_eq_false (by omega)]
theorem so_bor {x : Int32} {l : Nat → Bool} {d : Nat} (hd : d < 24) (h : ∀ j, j < 32 → bt x j = l j) : ∀ j, j < 32 → bt (x ||| ((1 : Int32) <<< (nI d &&& 31))) j = so_set l d j := by
  intro j hj
  rw [b_or, h j hj, so_bsh hd hj, so_set, Bool.or_comm]
theorem so_bts {x : Int32} {l : Nat → Bool} {d : Nat} (hd : d < 24) (h : ∀ j, j < 32 → bt x j = l j) : (x &&& ((1 : Int32) <<< (nI d &&& 31))) = 0 ↔ l d = false := by
  constructor
  · intro z
    have : bt (x &&& ((1 : Int32) <<< (nI d &&& 31))) d = false := by rw [z, b_0]
    rw [b_and, so_bsh hd (by omega), decide_eq_true rfl, Bool.and_true, h d (by omega)] at this
    exact this
  · intro z
    apply b_ext
    intro j hj
    rw [b_and, so_bsh hd hj, b_0]
    by_cases q : j = d
    · rw [q, h d (by omega), z, Bool.false_and]
    · rw [decide_eq_false q, Bool.and_false]
theorem so_nsb {m : Int32} {K O A S Pl : Nat → Int32} {e : Nat} : ∀ (k i : Nat) (s : Int32), i + k ≤ 24 → ∀ j, j < 32 → bt (so_fold (so_ng m K O A S Pl e) k i s) j = (bt s j || (decide (i ≤ j ∧ j < i + k) && so_nd m K O A S Pl e j)) := by
  intro k
  induction k with
  | zero =>
    intro i s hi j hj
    rw [so_fold, decide_eq_false (by omega), Bool.false_and, Bool.or_false]
  | succ k ih =>
    intro i s hi j hj
    rw [so_fold, ih (i + 1) _ (by omega) j hj]
    unfold so_ng
    by_cases q : j = i
    · subst q
      rw [decide_eq_false (by omega : ¬ (j + 1 ≤ j ∧ j < j + 1 + k)), Bool.false_and, Bool.or_false, decide_eq_true (by omega : j ≤ j ∧ j < j + (k + 1)), Bool.true_and]
      cases h : so_nd m K O A S Pl e j
      · rw [if_neg (by decide), Bool.or_false]
      · rw [if_pos rfl, b_or, so_bsh (by omega) hj, decide_eq_true rfl]
    · have hb : bt (if so_nd m K O A S Pl e i = true then s ||| ((1 : Int32) <<< (nI i &&& 31)) else s) j = bt s j := by
        split
        · rw [b_or, so_bsh (by omega) hj, decide_eq_false q, Bool.or_false]
        · rfl
      rw [hb]
      by_cases q2 : i ≤ j ∧ j < i + (k + 1)
      · rw [decide_eq_true q2, decide_eq_true (by omega)]
      · rw [decide_eq_false q2, decide_eq_false (by omega)]
theorem so_nsz {m : Int32} {K O A S Pl : Nat → Int32} {E e : Nat} {x : Int32} {l : Nat → Bool} (hE : E ≤ 24) (hM : so_M K e = true) (h : ∀ j, j < 32 → bt x j = l j) : (so_ns m K O A S Pl E e &&& (x ^^^ (-1))) = 0 ↔ so_any (fun d => so_nd m K O A S Pl e d && !l d) E 0 = false := by
  have hb : ∀ j, j < 32 → bt (so_ns m K O A S Pl E e &&& (x ^^^ (-1))) j = ((decide (0 ≤ j ∧ j < 0 + E) && so_nd m K O A S Pl e j) && !l j) := by
    intro j hj
    rw [b_and, b_xor, b_m1 j hj, h j hj, so_ns, if_pos hM, so_nsb E 0 0 (by omega) j hj, b_0, Bool.false_or, Bool.xor_true]
  constructor
  · intro z
    rw [Bool.eq_false_iff, ne_eq, so_any_iff]
    rintro ⟨j, h1, h2, h3⟩
    have := hb j (by omega)
    rw [z, b_0, decide_eq_true ⟨h1, h2⟩, Bool.true_and, h3] at this
    exact absurd this (by decide)
  · intro z
    apply b_ext
    intro j hj
    rw [hb j hj, b_0]
    by_cases q : 0 ≤ j ∧ j < 0 + E
    · rw [decide_eq_true q, Bool.true_and]
      cases hq : (so_nd m K O A S Pl e j && !l j)
      · rfl
      · rw [Bool.eq_false_iff, ne_eq, so_any_iff] at z
        exact absurd ⟨j, q.1, q.2, hq⟩ z
    · rw [decide_eq_false q, Bool.false_and, Bool.false_and]
/-! facts of the list -/
theorem so_gd (L : List Nat) {j : Nat} (h : j < L.length) : L.getD j 0 = L[j] := by
  rw [List.getD_eq_getElem?_getD, List.getElem?_eq_getElem h, Option.getD_some]
theorem so_go_in {f : (Nat → Bool) → Nat → Bool} {E : Nat} (Q : Nat → Prop) (hE : E ≤ 24) (hf : ∀ l e, f l e = true → Q e ∧ l e = false) : ∀ (k : Nat) (l : Nat → Bool), (so_go f E k l).length ≤ k ∧ (∀ e, e ∈ so_go f E k l → e < E ∧ Q e ∧ l e = false) ∧ (so_go f E k l).Nodup := by
  intro k
  induction k with
  | zero =>
    intro l
    exact ⟨Nat.le_refl _, fun e h => absurd h (List.not_mem_nil), List.nodup_nil⟩
  | succ k ih =>
    intro l
    rw [so_go]
    rcases so_fst_spec (f := f l) E 0 with ⟨h1, _⟩ | ⟨j, _, h2, h3, h4, _⟩
    · rw [h1, if_pos so_n1]
      exact ⟨Nat.zero_le _, fun e h => absurd h (List.not_mem_nil), List.nodup_nil⟩
    · have hj : j < E := by omega
      rw [h3, if_neg (so_nlt (by omega)), so_cl (by omega)]
      obtain ⟨g1, g2, g3⟩ := ih (so_set l j)
      obtain ⟨hQ, hl⟩ := hf l j h4
      refine ⟨?_, ?_, ?_⟩
      · rw [List.length_cons]
        omega
      · intro e he
        rcases List.mem_cons.mp he with rfl | he
        · exact ⟨hj, hQ, hl⟩
        · obtain ⟨a, b, c⟩ := g2 e he
          refine ⟨a, b, ?_⟩
          rw [so_set] at c
          exact (Bool.or_eq_false_iff.mp c).2
      · rw [List.nodup_cons]
        refine ⟨fun he => ?_, g3⟩
        obtain ⟨_, _, c⟩ := g2 j he
        rw [so_set, decide_eq_true rfl] at c
        exact absurd c (by simp)
section
variable {nP nW nD nL E G : Nat} {ra ac : Int32} {cd cx cy ln rg ct bE bA bV hea pn wd wr K O A Wt R S Pl nd ar rW rV md li lt : Nat → Int32}
variable {e d : Nat} {m : Int32}
theorem so_xfi {post : SX → Prop} {J : Int32 → (Nat → Int32) → (Nat → Int32) → (Nat → Int32) → (Nat → Int32) → (Nat → Int32) → (Nat → Int32) → (Nat → Int32) → (Nat → Int32) → (Nat → Int32) → (Nat → Int32) → (Nat → Int32) → (Nat → Int32) → (Nat → Int32) → (Nat → Int32) → (Nat → Int32) → (Nat → Int32) → (Nat → Int32) → (Nat → Int32) → (Nat → Int32) → (Nat → Int32) → (Nat → Int32) → (Nat → Int32) → (Nat → Int32) → (Nat → Int32) → Prop} (hE : E ≤ 24) (he : e < E) (hS : ∀ e, e < E → S e = -1 ∨ ∃ s, s < 24 ∧ S e = nI s)
    (h : J (nI (e + 1)) cd cx cy ln rg ct bE bA bV hea pn wd wr K O A Wt R S Pl (upd nd e (so_fold (so_ng m K O A S Pl e) E 0 0)) ar rW rV) : ∃ n, wX_findNeeds_23 post J m (nI e) (nI nP) (nI nW) (nI nD) (nI nL) (nI E) (nI G) ra ac cd cx cy ln rg ct bE bA bV hea pn wd wr K O A Wt R S Pl nd ar rW rV n 0 0 := by
  have c := so_cl (e := e) (by omega)
  have hv := vp_in_nI (n := e) (N := 24) (by omega) (by decide)
  refine ⟨E + 1, so_lfold (fun n a z => wX_findNeeds_23 post J m (nI e) (nI nP) (nI nW) (nI nD) (nI nL) (nI E) (nI G) ra ac cd cx cy ln rg ct bE bA bV hea pn wd wr K O A Wt R S Pl nd ar rW rV n a z) (fun s => J (nI (e + 1)) cd cx cy ln rg ct bE bA bV hea pn wd wr K O A Wt R S Pl (upd nd e s) ar rW rV) (so_ng m K O A S Pl e) (fun _ _ => True) E (fun n a _ hp => ?_) (fun n i a hi _ hw => ?_) (fun _ _ _ _ => trivial) E 0 (E + 1) 0 (by omega) (by omega) trivial h⟩
  · rw [wX_findNeeds_23]
    dsimp only
    rw [c]
    exact br_t (nI_le (Nat.le_refl _) (by omega)) ⟨hv, nm_e (nm_r (nI_1 e) hp)⟩
  · have hf : so_nd m K O A S Pl e i = false → wX_findNeeds_23 post J m (nI e) (nI nP) (nI nW) (nI nD) (nI nL) (nI E) (nI G) ra ac cd cx cy ln rg ct bE bA bV hea pn wd wr K O A Wt R S Pl nd ar rW rV n a (nI (i + 1)) := by
      intro q
      rw [so_ng, q, if_neg (by decide)] at hw
      exact hw
    have ht : so_nd m K O A S Pl e i = true → wX_findNeeds_23 post J m (nI e) (nI nP) (nI nW) (nI nD) (nI nL) (nI E) (nI G) ra ac cd cx cy ln rg ct bE bA bV hea pn wd wr K O A Wt R S Pl nd ar rW rV n (a ||| ((1 : Int32) <<< (nI i &&& 31))) (nI (i + 1)) := by
      intro q
      rw [so_ng, q, if_pos rfl] at hw
      exact hw
    rw [wX_findNeeds_23]
    dsimp only
    refine br_f (nI_ge hi (by omega)) (br_c (fun q1 => nm_r (nI_1 i) (hf (by simp [so_nd, so_inj (by omega) (by omega) q1]))) (fun q1 => ?_))
    have q1' : ¬ i = e := fun z => q1 (by rw [z])
    exact so_xM (by omega) (so_br (fun q2 => nm_r (nI_1 i) (hf (by simp [so_nd, q2]))) (fun q2 => so_xmp (by omega) (by omega) (hS i hi) (so_br (fun q3 => nm_r (nI_1 i) (hf (by simp [so_nd, q3]))) (fun q3 => nm_e (nm_r (nI_1 i) (ht (by simp [so_nd, q1', q2, q3])))))))
theorem so_xfo {post : SX → Prop} (hE : E ≤ 24) (hS : ∀ e, e < E → S e = -1 ∨ ∃ s, s < 24 ∧ S e = nI s)
    (h : ∀ nd : Nat → Int32, (∀ e, e < E → nd e = so_ns m K O A S Pl E e) → post (nI nP, nI nW, nI nD, nI nL, nI E, nI G, ra, ac, cd, cx, cy, ln, rg, ct, bE, bA, bV, hea, pn, wd, wr, K, O, A, Wt, R, S, Pl, nd, ar, rW, rV)) :
    ∀ (k i n : Nat) (nd : Nat → Int32), i + k = E → k < n → (∀ e, e < i → nd e = so_ns m K O A S Pl E e) → wX_findNeeds_2 post m (nI nP) (nI nW) (nI nD) (nI nL) (nI E) (nI G) ra ac n (nI i) cd cx cy ln rg ct bE bA bV hea pn wd wr K O A Wt R S Pl nd ar rW rV := by
  intro k
  induction k with
  | zero =>
    intro i n nd hi hn hd
    obtain ⟨m', rfl⟩ : ∃ m, n = m + 1 := ⟨n - 1, by omega⟩
    obtain rfl : i = E := by omega
    exact br_t (nI_le (Nat.le_refl _) (by omega)) (h nd hd)
  | succ k ih =>
    intro i n nd hi hn hd
    obtain ⟨m', rfl⟩ : ∃ m, n = m + 1 := ⟨n - 1, by omega⟩
    have c := so_cl (e := i) (by omega)
    have hv := vp_in_nI (n := i) (N := 24) (by omega) (by decide)
    have hst : ∀ x, x = so_ns m K O A S Pl E i → wX_findNeeds_2 post m (nI nP) (nI nW) (nI nD) (nI nL) (nI E) (nI G) ra ac m' (nI (i + 1)) cd cx cy ln rg ct bE bA bV hea pn wd wr K O A Wt R S Pl (upd nd i x) ar rW rV := by
      intro x hx
      refine ih (i + 1) m' (upd nd i x) (by omega) (by omega) (fun e he => ?_)
      by_cases q : e = i
      · rw [q, pk_us, hx]
      · rw [pk_un q]
        exact hd e (by omega)
    rw [wX_findNeeds_2]
    dsimp only
    rw [c]
    refine br_f (nI_ge (by omega) (by omega)) (so_xM (by omega) (so_br (fun q => ⟨hv, nm_e (nm_r (nI_1 i) (hst 0 ?_))⟩) (fun q => so_xfi hE (by omega) hS (hst _ ?_))))
    · rw [so_ns, q, if_neg (by decide)]
    · rw [so_ns, q, if_pos rfl]
theorem so_xfn {post : SX → Prop} (hE : E ≤ 24) (hS : ∀ e, e < E → S e = -1 ∨ ∃ s, s < 24 ∧ S e = nI s)
    (h : ∀ nd : Nat → Int32, (∀ e, e < E → nd e = so_ns m K O A S Pl E e) → post (nI nP, nI nW, nI nD, nI nL, nI E, nI G, ra, ac, cd, cx, cy, ln, rg, ct, bE, bA, bV, hea, pn, wd, wr, K, O, A, Wt, R, S, Pl, nd, ar, rW, rV)) : wpX_findNeeds post (nI nP, nI nW, nI nD, nI nL, nI E, nI G, ra, ac, cd, cx, cy, ln, rg, ct, bE, bA, bV, hea, pn, wd, wr, K, O, A, Wt, R, S, Pl, nd, ar, rW, rV) m := by
  unfold wpX_findNeeds
  dsimp only
  exact ⟨E + 1, so_xfo hE hS h E 0 (E + 1) nd (by omega) (by omega) (fun e he => by omega)⟩
theorem so_xnr {post : Int32 → Prop} {x : Int32} {l : Nat → Bool} (hE : E ≤ 24) (hn : ∀ e, e < E → nd e = so_ns m K O A S Pl E e) (hl : ∀ j, j < 32 → bt x j = l j) (h : post (so_fst (so_rdy m K O A S Pl E l) E 0)) : wpX_nextReady post (nI nP, nI nW, nI nD, nI nL, nI E, nI G, ra, ac, cd, cx, cy, ln, rg, ct, bE, bA, bV, hea, pn, wd, wr, K, O, A, Wt, R, S, Pl, nd, ar, rW, rV) x := by
  unfold wpX_nextReady
  dsimp only
  refine ⟨E + 1, so_lfst (fun n z => wX_nextReady_2 post x (nI nP) (nI nW) (nI nD) (nI nL) (nI E) (nI G) ra ac cd cx cy ln rg ct bE bA bV hea pn wd wr K O A Wt R S Pl nd ar rW rV n z) post (so_rdy m K O A S Pl E l) E (fun n hp => ?_) (fun n i hi ht hf => ?_) E 0 (E + 1) (by omega) (by omega) h⟩
  · exact br_t (nI_le (Nat.le_refl _) (by omega)) hp
  · have c := so_cl (e := i) (by omega)
    have hv := vp_in_nI (n := i) (N := 24) (by omega) (by decide)
    rw [wX_nextReady_2]
    dsimp only
    refine br_f (nI_ge hi (by omega)) (br_c (fun q1 => ?_) (fun q1 => ?_))
    · have q1' := (so_bts (by omega) hl).mp q1
      unfold wX_nextReady_23
      rw [c, hn i hi]
      refine br_f (by decide) (so_xM (by omega) (so_br (fun q2 => nm_r (nI_1 i) (hf (by simp [so_rdy, q2]))) (fun q2 => ⟨hv, br_c (fun q3 => ht ?_) (fun q3 => nm_r (nI_1 i) (hf ?_))⟩)))
      · have q3' := (so_nsz hE q2 hl).mp q3
        simp [so_rdy, q1', q2, q3']
      · have q3' := mt (so_nsz hE q2 hl).mpr q3
        rw [Bool.not_eq_false] at q3'
        simp [so_rdy, q3']
    · have q1' := mt (so_bts (by omega) hl).mpr q1
      rw [Bool.not_eq_false] at q1'
      unfold wX_nextReady_23
      exact br_t rfl (nm_r (nI_1 i) (hf (by simp [so_rdy, q1'])))
theorem so_xal {post : SX → Prop} (hE : E ≤ 24) (hn : ∀ e, e < E → nd e = so_ns m K O A S Pl E e) :
    ∀ (k i n : Nat) (x : Int32) (l : Nat → Bool) (ar : Nat → Int32), i + k = E → k < n → (∀ j, j < 32 → bt x j = l j) →
    (∀ ar' : Nat → Int32, (∀ j, j < i → ar' j = ar j) → (∀ j e, (so_go (so_rdy m K O A S Pl E) E k l)[j]? = some e → ar' (i + j) = nI e) → post (nI nP, nI nW, nI nD, nI nL, nI E, nI G, ra, nI (i + (so_go (so_rdy m K O A S Pl E) E k l).length), cd, cx, cy, ln, rg, ct, bE, bA, bV, hea, pn, wd, wr, K, O, A, Wt, R, S, Pl, nd, ar', rW, rV)) →
    wX_arrange_14 post (nI nP) (nI nW) (nI nD) (nI nL) (nI E) (nI G) ra n x (nI i) (nI i) cd cx cy ln rg ct bE bA bV hea pn wd wr K O A Wt R S Pl nd ar rW rV := by
  intro k
  induction k with
  | zero =>
    intro i n x l ar hi hk hl hp
    obtain ⟨m', rfl⟩ : ∃ m, n = m + 1 := ⟨n - 1, by omega⟩
    obtain rfl : i = E := by omega
    exact br_t (nI_le (Nat.le_refl _) (by omega)) (hp ar (fun _ _ => rfl) (fun j e h => absurd h (by simp [so_go])))
  | succ k ih =>
    intro i n x l ar hi hk hl hp
    obtain ⟨m', rfl⟩ : ∃ m, n = m + 1 := ⟨n - 1, by omega⟩
    have c := so_cl (e := i) (by omega)
    have hv := vp_in_nI (n := i) (N := 24) (by omega) (by decide)
    rw [wX_arrange_14]
    dsimp only
    rw [c]
    refine br_f (nI_ge (by omega) (by omega)) (so_xnr hE hn hl ?_)
    rw [so_go] at hp
    rcases so_fst_spec (f := so_rdy m K O A S Pl E l) E 0 with ⟨h1, _⟩ | ⟨j, _, h2, h3, h4, _⟩
    · rw [h1, if_pos so_n1] at hp
      rw [h1]
      exact br_f so_n1' (hp ar (fun _ _ => rfl) (fun j e h => absurd h (by simp)))
    · rw [h3, if_neg (so_nlt (by omega)), so_cl (by omega)] at hp
      rw [h3]
      refine br_t (so_nle (by omega)) ⟨hv, nm_e (nm_r (nI_1 i) (nm_e (nm_r (nI_1 i) ?_)))⟩
      refine ih (i + 1) m' _ (so_set l j) (upd ar i (nI j)) (by omega) (by omega) (so_bor (by omega) hl) (fun ar' ha hb => ?_)
      have := hp ar' (fun t ht => ?_) (fun t e he => ?_)
      · rw [List.length_cons, show i + ((so_go (so_rdy m K O A S Pl E) E k (so_set l j)).length + 1) = i + 1 + (so_go (so_rdy m K O A S Pl E) E k (so_set l j)).length by omega] at this
        exact this
      · rw [ha t (by omega), pk_un (by omega)]
      · cases t with
        | zero =>
          rw [List.getElem?_cons_zero] at he
          rw [Nat.add_zero, ha i (by omega), pk_us]
          exact congrArg nI (Option.some.inj he)
        | succ t =>
          rw [List.getElem?_cons_succ] at he
          rw [← hb t e he, show i + (t + 1) = i + 1 + t by omega]
theorem so_xar {post : SX → Prop} (hE : E ≤ 24) (hS : ∀ e, e < E → S e = -1 ∨ ∃ s, s < 24 ∧ S e = nI s)
    (h : ∀ nd ar : Nat → Int32, (∀ j e, (so_go (so_rdy m K O A S Pl E) E E (fun _ => false))[j]? = some e → ar j = nI e) → post (nI nP, nI nW, nI nD, nI nL, nI E, nI G, ra, nI (so_go (so_rdy m K O A S Pl E) E E (fun _ => false)).length, cd, cx, cy, ln, rg, ct, bE, bA, bV, hea, pn, wd, wr, K, O, A, Wt, R, S, Pl, nd, ar, rW, rV)) : wpX_arrange post (nI nP, nI nW, nI nD, nI nL, nI E, nI G, ra, ac, cd, cx, cy, ln, rg, ct, bE, bA, bV, hea, pn, wd, wr, K, O, A, Wt, R, S, Pl, nd, ar, rW, rV) m := by
  unfold wpX_arrange
  dsimp only
  refine so_xfn hE hS (fun nd hnd => ⟨E + 1, so_xal hE hnd E 0 (E + 1) 0 (fun _ => false) ar (by omega) (by omega) (fun j hj => b_0 j) (fun ar' _ hb => ?_)⟩)
  rw [Nat.zero_add]
  exact h nd ar' (fun j e he => by rw [← hb j e he, Nat.zero_add])
/-! the reference -/
theorem so_yrd {post : Int32 → Prop} {l : Nat → Bool} (hm : m = 0 ∨ m = 1) (hE : E ≤ 24) (he : e < E) (hS : ∀ e, e < E → S e = -1 ∨ ∃ s, s < 24 ∧ S e = nI s) (hl : ∀ j, j < 24 → lt j = so_b (l j)) (h : post (so_b (so_rdy m K O A S Pl E l e))) : wpY_ready post (nI nP, nI nW, nI nD, nI nL, nI E, ra, cd, cx, cy, ln, rg, ct, K, O, A, Wt, R, S, Pl, md, li, lt) m (nI e) := by
  have c := so_cl (e := e) (by omega)
  have hv := vp_in_nI (n := e) (N := 24) (by omega) (by decide)
  unfold wpY_ready
  dsimp only
  rw [c, hl e (by omega)]
  refine ⟨hv, br_c (fun q => so_q h (by simp [so_rdy, so_M, q])) (fun q => ⟨hv, so_br (fun q1 => ?_) (fun q1 => so_q h (by simp [so_rdy, q1]))⟩)⟩
  have hx : so_rdy m K O A S Pl E l e = !so_any (fun d => so_nd m K O A S Pl e d && !l d) E 0 := by simp [so_rdy, so_M, q, q1]
  rw [hx] at h
  refine ⟨E + 1, so_lany (fun n z => wY_ready_23 post m (nI e) (nI nP) (nI nW) (nI nD) (nI nL) (nI E) ra cd cx cy ln rg ct K O A Wt R S Pl md li lt n z) (fun r => (r = 0 → post 1) ∧ (¬ r = 0 → post 0)) (fun d => so_nd m K O A S Pl e d && !l d) E (fun n hp => ?_) (fun n i hi ht hf => ?_) E 0 (E + 1) (by omega) (by omega) ?_⟩
  · exact br_t (nI_le (Nat.le_refl _) (by omega)) (hp.1 rfl)
  · have c2 := so_cl (e := i) (by omega)
    have hv2 := vp_in_nI (n := i) (N := 24) (by omega) (by decide)
    rw [wY_ready_23]
    dsimp only
    rw [c2, hl i (by omega)]
    refine br_f (nI_ge hi (by omega)) (br_c (fun q2 => nm_r (nI_1 i) (hf (by simp [so_nd, so_inj (by omega) (by omega) q2]))) (fun q2 => ⟨hv2, br_c (fun q3 => nm_r (nI_1 i) (hf (by simp [so_nd, so_M, q3]))) (fun q3 => ⟨hv2, so_br (fun q4 => ?_) (fun q4 => nm_r (nI_1 i) (hf (by simp [q4])))⟩)⟩))
    have q2' : ¬ i = e := fun z => q2 (by rw [z])
    exact so_ymp hm (by omega) (by omega) (hS i hi) (so_br (fun q5 => nm_r (nI_1 i) (hf (by simp [so_nd, q5]))) (fun q5 => (ht (by simp [so_nd, so_M, q2', q3, q4, q5])).2 (by decide)))
  · exact so_br (fun q2 => so_p h (by simp [q2])) (fun q2 => so_q h (by simp [q2]))
theorem so_y36 {post : Int32 → SY → Prop} {J : Int32 → (Nat → Int32) → (Nat → Int32) → (Nat → Int32) → (Nat → Int32) → (Nat → Int32) → (Nat → Int32) → (Nat → Int32) → (Nat → Int32) → (Nat → Int32) → (Nat → Int32) → (Nat → Int32) → (Nat → Int32) → (Nat → Int32) → (Nat → Int32) → (Nat → Int32) → (Nat → Int32) → Prop} {x2 : Int32} {l : Nat → Bool} (hm : m = 0 ∨ m = 1) (hE : E ≤ 24) (hS : ∀ e, e < E → S e = -1 ∨ ∃ s, s < 24 ∧ S e = nI s) (hl : ∀ j, j < 24 → lt j = so_b (l j)) :
    ∀ (k i n : Nat), i + k = E → k + 1 < n → wY_arrange_68 post J m x2 (so_fst (so_rdy m K O A S Pl E l) k i) (nI nP) (nI nW) (nI nD) (nI nL) (nI E) ra cd cx cy ln rg ct K O A Wt R S Pl md li lt → wY_arrange_36 post J m x2 (nI nP) (nI nW) (nI nD) (nI nL) (nI E) ra cd cx cy ln rg ct K O A Wt R S Pl md li lt n (-1) (nI i) := by
  intro k
  induction k with
  | zero =>
    intro i n hi hn hp
    obtain ⟨m', rfl⟩ : ∃ m, n = m + 1 := ⟨n - 1, by omega⟩
    obtain rfl : i = E := by omega
    exact br_t (nI_le (Nat.le_refl _) (by omega)) hp
  | succ k ih =>
    intro i n hi hn hp
    obtain ⟨m', rfl⟩ : ∃ m, n = m + 1 := ⟨n - 1, by omega⟩
    obtain ⟨m'', rfl⟩ : ∃ m, m' = m + 1 := ⟨m' - 1, by omega⟩
    rw [so_fst] at hp
    rw [wY_arrange_36]
    dsimp only
    refine br_f (nI_ge (by omega) (by omega)) (br_f so_n1' (so_yrd hm hE (by omega) hS hl (so_br (fun q => nm_r (nI_1 i) ?_) (fun q => nm_r (nI_1 i) ?_))))
    · rw [q, if_neg (by decide)] at hp
      exact ih (i + 1) (m'' + 1) (by omega) (by omega) hp
    · rw [q, if_pos rfl] at hp
      rw [wY_arrange_36]
      dsimp only
      by_cases q2 : E ≤ i + 1
      · exact br_t (nI_le q2 (by omega)) hp
      · exact br_f (nI_ge (by omega) (by omega)) (br_t (so_nle (by omega)) hp)
theorem so_nar1 : vp_nar .boolean 1 = 1 := rfl
theorem so_nar0 : vp_nar .boolean 0 = 0 := rfl
theorem so_yal {post : Int32 → SY → Prop} (hm : m = 0 ∨ m = 1) (hE : E ≤ 24) (hS : ∀ e, e < E → S e = -1 ∨ ∃ s, s < 24 ∧ S e = nI s) :
    ∀ (k i n : Nat) (l : Nat → Bool) (li lt : Nat → Int32), i + k = E → k < n → (∀ j, j < 24 → lt j = so_b (l j)) →
    (∀ li' lt' : Nat → Int32, (∀ j, j < i → li' j = li j) → (∀ j e, (so_go (so_rdy m K O A S Pl E) E k l)[j]? = some e → li' (i + j) = nI e) → post (nI (i + (so_go (so_rdy m K O A S Pl E) E k l).length)) (nI nP, nI nW, nI nD, nI nL, nI E, ra, cd, cx, cy, ln, rg, ct, K, O, A, Wt, R, S, Pl, md, li', lt')) →
    wY_arrange_23 post m (nI nP) (nI nW) (nI nD) (nI nL) (nI E) ra n (nI i) cd cx cy ln rg ct K O A Wt R S Pl md li lt := by
  intro k
  induction k with
  | zero =>
    intro i n l li lt hi hk hl hp
    obtain ⟨m', rfl⟩ : ∃ m, n = m + 1 := ⟨n - 1, by omega⟩
    obtain rfl : i = E := by omega
    exact br_t (nI_le (Nat.le_refl _) (by omega)) (hp li lt (fun _ _ => rfl) (fun j e h => absurd h (by simp [so_go])))
  | succ k ih =>
    intro i n l li lt hi hk hl hp
    obtain ⟨m', rfl⟩ : ∃ m, n = m + 1 := ⟨n - 1, by omega⟩
    have c := so_cl (e := i) (by omega)
    have hv := vp_in_nI (n := i) (N := 24) (by omega) (by decide)
    rw [wY_arrange_23]
    dsimp only
    refine br_f (nI_ge (by omega) (by omega)) ⟨E + 2, so_y36 hm hE hS hl E 0 (E + 2) (by omega) (by omega) ?_⟩
    unfold wY_arrange_68
    rw [so_go] at hp
    rcases so_fst_spec (f := so_rdy m K O A S Pl E l) E 0 with ⟨h1, _⟩ | ⟨j, _, h2, h3, h4, _⟩
    · rw [h1, if_pos so_n1] at hp
      rw [h1]
      exact br_f so_n1' (hp li lt (fun _ _ => rfl) (fun j e h => absurd h (by simp)))
    · have cj := so_cl (e := j) (by omega)
      have hvj := vp_in_nI (n := j) (N := 24) (by omega) (by decide)
      rw [h3, if_neg (so_nlt (by omega)), cj] at hp
      rw [h3, c, cj, so_nar1]
      refine br_t (so_nle (by omega)) ⟨hv, nm_e ⟨hvj, nm_e (nm_r (nI_1 i) ?_)⟩⟩
      refine ih (i + 1) m' (so_set l j) (upd li i (nI j)) (upd lt j 1) (by omega) (by omega) (fun t ht => ?_) (fun li' lt' ha hb => ?_)
      · by_cases q : t = j
        · rw [q, pk_us, so_set, decide_eq_true rfl]
          rfl
        · rw [pk_un q, hl t ht, so_set, decide_eq_false q, Bool.false_or]
      · have := hp li' lt' (fun t ht => ?_) (fun t e he => ?_)
        · rw [List.length_cons, show i + ((so_go (so_rdy m K O A S Pl E) E k (so_set l j)).length + 1) = i + 1 + (so_go (so_rdy m K O A S Pl E) E k (so_set l j)).length by omega] at this
          exact this
        · rw [ha t (by omega), pk_un (by omega)]
        · cases t with
          | zero =>
            rw [List.getElem?_cons_zero] at he
            rw [Nat.add_zero, ha i (by omega), pk_us]
            exact congrArg nI (Option.some.inj he)
          | succ t =>
            rw [List.getElem?_cons_succ] at he
            rw [← hb t e he, show i + (t + 1) = i + 1 + t by omega]
theorem so_yac {post : Int32 → SY → Prop} (lt0 : Nat → Int32) (h : ∃ n, wY_arrange_23 post m (nI nP) (nI nW) (nI nD) (nI nL) (nI E) ra n 0 cd cx cy ln rg ct K O A Wt R S Pl md li (so_fill lt0 0 24)) :
    ∀ (k i n : Nat), i + k = 24 → k < n → wY_arrange_2 post m (nI nP) (nI nW) (nI nD) (nI nL) (nI E) ra n (nI i) cd cx cy ln rg ct K O A Wt R S Pl md li (so_fill lt0 0 i) := by
  intro k
  induction k with
  | zero =>
    intro i n hi hn
    obtain ⟨m', rfl⟩ : ∃ m, n = m + 1 := ⟨n - 1, by omega⟩
    obtain rfl : i = 24 := by omega
    exact br_t (by decide) h
  | succ k ih =>
    intro i n hi hn
    obtain ⟨m', rfl⟩ : ∃ m, n = m + 1 := ⟨n - 1, by omega⟩
    have c := so_cl (e := i) (by omega)
    have hv := vp_in_nI (n := i) (N := 24) (by omega) (by decide)
    rw [wY_arrange_2]
    dsimp only
    rw [c, so_nar0, so_fill_s]
    exact br_f (nI_ge (b := 24) (by omega) (by omega)) ⟨hv, nm_e (nm_r (nI_1 i) (ih (i + 1) m' (by omega) (by omega)))⟩
theorem so_yar {post : Int32 → SY → Prop} (hm : m = 0 ∨ m = 1) (hE : E ≤ 24) (hS : ∀ e, e < E → S e = -1 ∨ ∃ s, s < 24 ∧ S e = nI s)
    (h : ∀ li lt : Nat → Int32, (∀ j e, (so_go (so_rdy m K O A S Pl E) E E (fun _ => false))[j]? = some e → li j = nI e) → post (nI (so_go (so_rdy m K O A S Pl E) E E (fun _ => false)).length) (nI nP, nI nW, nI nD, nI nL, nI E, ra, cd, cx, cy, ln, rg, ct, K, O, A, Wt, R, S, Pl, md, li, lt)) : wpY_arrange post (nI nP, nI nW, nI nD, nI nL, nI E, ra, cd, cx, cy, ln, rg, ct, K, O, A, Wt, R, S, Pl, md, li, lt) m := by
  unfold wpY_arrange
  dsimp only
  refine ⟨25, ?_⟩
  have key : wY_arrange_2 post m (nI nP) (nI nW) (nI nD) (nI nL) (nI E) ra 25 (nI 0) cd cx cy ln rg ct K O A Wt R S Pl md li (so_fill lt 0 0) := by
    refine so_yac lt ⟨E + 1, ?_⟩ 24 0 25 (by omega) (by omega)
    refine so_yal hm hE hS E 0 (E + 1) (fun _ => false) li (so_fill lt 0 24) (by omega) (by omega) (fun j hj => so_fill_in hj) (fun li' lt' _ hb => ?_)
    rw [Nat.zero_add]
    exact h li' lt' (fun j e he => by rw [← hb j e he, Nat.zero_add])
  rw [so_fill_0] at key
  exact key
/-- the arrangement of both sides -/
theorem so_arr (hm : m = 0 ∨ m = 1) (hE : E ≤ 24) (hS : ∀ e, e < E → S e = -1 ∨ ∃ s, s < 24 ∧ S e = nI s) : ∃ (N : Nat) (g : Nat → Nat), N ≤ E ∧ (∀ j, j < N → g j < E ∧ so_M K (g j) = true) ∧ (∀ i j, i < N → j < N → g i = g j → i = j) ∧
    (∀ post : SX → Prop, (∀ nd ar : Nat → Int32, (∀ j, j < N → ar j = nI (g j)) → post (nI nP, nI nW, nI nD, nI nL, nI E, nI G, ra, nI N, cd, cx, cy, ln, rg, ct, bE, bA, bV, hea, pn, wd, wr, K, O, A, Wt, R, S, Pl, nd, ar, rW, rV)) → wpX_arrange post (nI nP, nI nW, nI nD, nI nL, nI E, nI G, ra, ac, cd, cx, cy, ln, rg, ct, bE, bA, bV, hea, pn, wd, wr, K, O, A, Wt, R, S, Pl, nd, ar, rW, rV) m) ∧
    (∀ post : Int32 → SY → Prop, (∀ li lt : Nat → Int32, (∀ j, j < N → li j = nI (g j)) → post (nI N) (nI nP, nI nW, nI nD, nI nL, nI E, ra, cd, cx, cy, ln, rg, ct, K, O, A, Wt, R, S, Pl, md, li, lt)) → wpY_arrange post (nI nP, nI nW, nI nD, nI nL, nI E, ra, cd, cx, cy, ln, rg, ct, K, O, A, Wt, R, S, Pl, md, li, lt) m) := by
  obtain ⟨h1, h2, h3⟩ := so_go_in (f := so_rdy m K O A S Pl E) (E := E) (fun e => so_M K e = true) hE (fun l e h => by
    simp only [so_rdy, Bool.and_eq_true, Bool.not_eq_true'] at h
    exact ⟨h.1, h.2.1⟩) E (fun _ => false)
  refine ⟨(so_go (so_rdy m K O A S Pl E) E E (fun _ => false)).length, fun j => (so_go (so_rdy m K O A S Pl E) E E (fun _ => false)).getD j 0, h1, fun j hj => ?_, fun i j hi hj hg => ?_, fun post hp => so_xar hE hS (fun nd ar ha => hp nd ar (fun j hj => ?_)), fun post hp => so_yar hm hE hS (fun li lt ha => hp li lt (fun j hj => ?_))⟩
  · dsimp only
    rw [so_gd _ hj]
    obtain ⟨a, b, _⟩ := h2 _ (List.getElem_mem hj)
    exact ⟨a, b⟩
  · dsimp only at hg
    rw [so_gd _ hi, so_gd _ hj] at hg
    rcases Nat.lt_trichotomy i j with h | h | h
    · exact absurd hg (List.pairwise_iff_getElem.mp h3 i j hi hj h)
    · exact h
    · exact absurd hg.symm (List.pairwise_iff_getElem.mp h3 j i hj hi h)
  · dsimp only
    rw [so_gd _ hj]
    exact ha j _ (List.getElem?_eq_getElem hj)
  · dsimp only
    rw [so_gd _ hj]
    exact ha j _ (List.getElem?_eq_getElem hj)
end
end
section
/-! ===== replay and the queries over the arrangement ===== -/
/-- the word a behind the first k events of the list g -/
def so_wa (K A Wt : Nat → Int32) (g : Nat → Nat) (a : Nat) : Nat → Int32
  | 0 => 0
  | k + 1 => if (so_W K (g k) && decide (A (g k) = nI a)) = true then Wt (g k) else so_wa K A Wt g a k
section
variable {nP nW nD nL E G : Nat} {ra ac : Int32} {cd cx cy ln rg ct bE bA bV hea pn wd wr K O A Wt R S Pl nd ar rW rV md li lt : Nat → Int32}
variable {e d : Nat}
theorem so_ywa {post : Int32 → Prop} {g : Nat → Nat} {a k0 : Nat} (hk : k0 ≤ 24) (hg : ∀ j, j < k0 → g j < 24 ∧ li j = nI (g j)) (h : post (so_wa K A Wt g a k0)) : wpY_wordAfter post (nI nP, nI nW, nI nD, nI nL, nI E, ra, cd, cx, cy, ln, rg, ct, K, O, A, Wt, R, S, Pl, md, li, lt) (nI a) (nI k0) := by
  unfold wpY_wordAfter
  dsimp only
  have key : ∀ (k i n : Nat), i + k = k0 → k < n → wY_wordAfter_5 post (nI a) (nI k0) (nI nP) (nI nW) (nI nD) (nI nL) (nI E) ra cd cx cy ln rg ct K O A Wt R S Pl md li lt n (so_wa K A Wt g a i) (nI i) := by
    intro k
    induction k with
    | zero =>
      intro i n hi hn
      obtain ⟨m', rfl⟩ : ∃ m, n = m + 1 := ⟨n - 1, by omega⟩
      obtain rfl : i = k0 := by omega
      exact br_t (nI_le (Nat.le_refl _) (by omega)) h
    | succ k ih =>
      intro i n hi hn
      obtain ⟨m', rfl⟩ : ∃ m, n = m + 1 := ⟨n - 1, by omega⟩
      have c := so_cl (e := i) (by omega)
      have hv := vp_in_nI (n := i) (N := 24) (by omega) (by decide)
      obtain ⟨g1, g2⟩ := hg i (by omega)
      have c2 := so_cl (e := g i) (by omega)
      have hv2 := vp_in_nI (n := g i) (N := 24) (by omega) (by decide)
      have IH := ih (i + 1) m' (by omega) (by omega)
      rw [so_wa] at IH
      rw [wY_wordAfter_5]
      dsimp only
      rw [c, g2]
      refine br_f (nI_ge (by omega) (by omega)) ⟨hv, nm_e ?_⟩
      rw [c2]
      refine so_yW g1 (so_br (fun q => nm_r (nI_1 i) ?_) (fun q => ⟨hv2, br_c (fun q2 => ⟨hv2, nm_e (nm_r (nI_1 i) ?_)⟩) (fun q2 => nm_r (nI_1 i) ?_)⟩))
      · rw [if_neg (by rw [q]; simp)] at IH
        exact IH
      · rw [if_pos (by rw [q, decide_eq_true q2]; rfl)] at IH
        exact IH
      · rw [if_neg (by rw [decide_eq_false q2, Bool.and_false]; simp)] at IH
        exact IH
  exact ⟨k0 + 1, key k0 0 (k0 + 1) (by omega) (by omega)⟩
/-- the two fillings ahead of the replay -/
theorem so_xr28 {post : SX → Prop} (rV0 : Nat → Int32) (h : ∃ n, wX_replay_49 post (nI nP) (nI nW) (nI nD) (nI nL) (nI E) (nI G) ra ac n 0 cd cx cy ln rg ct bE bA bV hea pn wd wr K O A Wt R S Pl nd ar rW (so_fill rV0 0 24)) :
    ∀ (k i n : Nat), i + k = 24 → k < n → wX_replay_28 post (nI nP) (nI nW) (nI nD) (nI nL) (nI E) (nI G) ra ac n (nI i) cd cx cy ln rg ct bE bA bV hea pn wd wr K O A Wt R S Pl nd ar rW (so_fill rV0 0 i) := by
  intro k
  induction k with
  | zero =>
    intro i n hi hn
    obtain ⟨m', rfl⟩ : ∃ m, n = m + 1 := ⟨n - 1, by omega⟩
    obtain rfl : i = 24 := by omega
    exact br_t (by decide) h
  | succ k ih =>
    intro i n hi hn
    obtain ⟨m', rfl⟩ : ∃ m, n = m + 1 := ⟨n - 1, by omega⟩
    have c := so_cl (e := i) (by omega)
    have hv := vp_in_nI (n := i) (N := 24) (by omega) (by decide)
    rw [wX_replay_28]
    dsimp only
    rw [c, so_fill_s]
    exact br_f (nI_ge (b := 24) (by omega) (by omega)) ⟨hv, nm_e (nm_r (nI_1 i) (ih (i + 1) m' (by omega) (by omega)))⟩
theorem so_xr7 {post : SX → Prop} (rW0 : Nat → Int32) (h : ∃ n, wX_replay_28 post (nI nP) (nI nW) (nI nD) (nI nL) (nI E) (nI G) ra ac n 0 cd cx cy ln rg ct bE bA bV hea pn wd wr K O A Wt R S Pl nd ar (so_fill rW0 0 8) rV) :
    ∀ (k i n : Nat), i + k = 8 → k < n → wX_replay_7 post (nI nP) (nI nW) (nI nD) (nI nL) (nI E) (nI G) ra ac n (nI i) cd cx cy ln rg ct bE bA bV hea pn wd wr K O A Wt R S Pl nd ar (so_fill rW0 0 i) rV := by
  intro k
  induction k with
  | zero =>
    intro i n hi hn
    obtain ⟨m', rfl⟩ : ∃ m, n = m + 1 := ⟨n - 1, by omega⟩
    obtain rfl : i = 8 := by omega
    exact br_t (by decide) h
  | succ k ih =>
    intro i n hi hn
    obtain ⟨m', rfl⟩ : ∃ m, n = m + 1 := ⟨n - 1, by omega⟩
    have c := so_cl (e := i) (by omega)
    have hv := vp_in_nI (n := i) (N := 8) (by omega) (by decide)
    rw [wX_replay_7]
    dsimp only
    rw [c, so_fill_s]
    exact br_f (nI_ge (b := 8) (by omega) (by omega)) ⟨hv, nm_e (nm_r (nI_1 i) (ih (i + 1) m' (by omega) (by omega)))⟩
/-- the state of the replay behind k events -/
def so_ri (K A Wt : Nat → Int32) (g : Nat → Nat) (k : Nat) (rW rV : Nat → Int32) : Prop :=
  (∀ a, a < 8 → rW a = so_wa K A Wt g a k) ∧ (∀ j, j < k → so_R K (g j) = true → ∀ a, A (g j) = nI a → a < 8 → rV (g j) = so_wa K A Wt g a j) ∧ (∀ e, e < 24 → (∀ j, j < k → g j ≠ e) → rV e = 0)
theorem so_ri_s {K A Wt rW rV : Nat → Int32} {g : Nat → Nat} {k a : Nat} (hinj : ∀ j, j < k → g j ≠ g k) (ha : a < 8) (hA : A (g k) = nI a) (h : so_ri K A Wt g k rW rV) :
    so_ri K A Wt g (k + 1) (if so_W K (g k) = true then upd rW a (Wt (g k)) else rW) (if so_R K (g k) = true then upd rV (g k) (rW a) else rV) := by
  obtain ⟨h1, h2, h3⟩ := h
  refine ⟨fun b hb => ?_, fun j hj hr b hb hb8 => ?_, fun e he hn => ?_⟩
  · rw [so_wa]
    by_cases q : so_W K (g k) = true
    · rw [if_pos q, q, Bool.true_and, hA]
      by_cases q2 : b = a
      · subst q2
        rw [pk_us, decide_eq_true rfl, if_pos rfl]
      · rw [pk_un q2, if_neg (by rw [decide_eq_true_eq, nI_eq (by omega) (by omega)]; omega)]
        exact h1 b hb
    · rw [if_neg q, if_neg (by rw [Bool.eq_false_iff.mpr q]; simp)]
      exact h1 b hb
  · by_cases q : j = k
    · subst q
      rw [if_pos hr, pk_us]
      have : b = a := so_inj (by omega) (by omega) (hb.symm.trans hA)
      rw [this]
      exact h1 a ha
    · have hne := hinj j (by omega)
      have : (if so_R K (g k) = true then upd rV (g k) (rW a) else rV) (g j) = rV (g j) := by
        split
        · rw [pk_un hne]
        · rfl
      rw [this]
      exact h2 j (by omega) hr b hb hb8
  · have hne : e ≠ g k := fun z => hn k (by omega) z.symm
    have : (if so_R K (g k) = true then upd rV (g k) (rW a) else rV) e = rV e := by
      split
      · rw [pk_un hne]
      · rfl
    rw [this]
    exact h3 e he (fun j hj => hn j (by omega))
theorem so_xr49 {post : SX → Prop} {N : Nat} {g : Nat → Nat} (hN : N ≤ 24) (hg : ∀ j, j < N → g j < 24 ∧ ar j = nI (g j) ∧ ∃ a, a < 8 ∧ A (g j) = nI a) (hinj : ∀ i j, i < N → j < N → g i = g j → i = j)
    (h : ∀ rW rV : Nat → Int32, so_ri K A Wt g N rW rV → post (nI nP, nI nW, nI nD, nI nL, nI E, nI G, ra, nI N, cd, cx, cy, ln, rg, ct, bE, bA, bV, hea, pn, wd, wr, K, O, A, Wt, R, S, Pl, nd, ar, rW, rV)) :
    ∀ (k i n : Nat) (rW rV : Nat → Int32), i + k = N → k < n → so_ri K A Wt g i rW rV → wX_replay_49 post (nI nP) (nI nW) (nI nD) (nI nL) (nI E) (nI G) ra (nI N) n (nI i) cd cx cy ln rg ct bE bA bV hea pn wd wr K O A Wt R S Pl nd ar rW rV := by
  intro k
  induction k with
  | zero =>
    intro i n rW rV hi hn hr
    obtain ⟨m', rfl⟩ : ∃ m, n = m + 1 := ⟨n - 1, by omega⟩
    obtain rfl : i = N := by omega
    exact br_t (nI_le (Nat.le_refl _) (by omega)) (h rW rV hr)
  | succ k ih =>
    intro i n rW rV hi hn hr
    obtain ⟨m', rfl⟩ : ∃ m, n = m + 1 := ⟨n - 1, by omega⟩
    have c := so_cl (e := i) (by omega)
    have hv := vp_in_nI (n := i) (N := 24) (by omega) (by decide)
    obtain ⟨g1, g2, a, ha, hA⟩ := hg i (by omega)
    have c2 := so_cl (e := g i) (by omega)
    have hv2 := vp_in_nI (n := g i) (N := 24) (by omega) (by decide)
    have c3 := so_cl (e := a) (by omega)
    have hv3 := vp_in_nI (n := a) (N := 8) (by omega) (by decide)
    have hs := so_ri_s (fun j hj z => by have := hinj j i (by omega) (by omega) z; omega) ha hA hr
    have IH := ih (i + 1) m' _ _ (by omega) (by omega) hs
    have h91 : ∀ rV', rV' = (if so_R K (g i) = true then upd rV (g i) (rW a) else rV) → wX_replay_91 post (wX_replay_49 post (nI nP) (nI nW) (nI nD) (nI nL) (nI E) (nI G) ra (nI N) m') (nI i) (nI (g i)) (nI a) (nI nP) (nI nW) (nI nD) (nI nL) (nI E) (nI G) ra (nI N) cd cx cy ln rg ct bE bA bV hea pn wd wr K O A Wt R S Pl nd ar rW rV' := by
      intro rV' hrV
      rw [← hrV] at IH
      unfold wX_replay_91
      rw [c2, c3]
      refine so_xW g1 (so_br (fun q => nm_r (nI_1 i) ?_) (fun q => ⟨hv2, hv3, nm_e (nm_r (nI_1 i) ?_)⟩))
      · rw [if_neg (by rw [q]; simp)] at IH
        exact IH
      · rw [if_pos q] at IH
        exact IH
    rw [wX_replay_49]
    dsimp only
    rw [c, g2]
    refine br_f (nI_ge (by omega) (by omega)) ⟨hv, nm_e ?_⟩
    rw [c2, hA]
    refine ⟨hv2, nm_e ?_⟩
    rw [c3]
    refine so_xR g1 (so_br (fun q => h91 rV ?_) (fun q => ⟨hv3, hv2, nm_e (h91 _ ?_)⟩))
    · rw [if_neg (by rw [q]; decide)]
    · rw [if_pos q]
theorem so_xrp {post : SX → Prop} {N : Nat} {g : Nat → Nat} (hN : N ≤ 24) (hg : ∀ j, j < N → g j < 24 ∧ ∃ a, a < 8 ∧ A (g j) = nI a) (hinj : ∀ i j, i < N → j < N → g i = g j → i = j)
    (har : ∀ post : SX → Prop, (∀ nd ar : Nat → Int32, (∀ j, j < N → ar j = nI (g j)) → post (nI nP, nI nW, nI nD, nI nL, nI E, nI G, ra, nI N, cd, cx, cy, ln, rg, ct, bE, bA, bV, hea, pn, wd, wr, K, O, A, Wt, R, S, Pl, nd, ar, rW, rV)) → wpX_arrange post (nI nP, nI nW, nI nD, nI nL, nI E, nI G, ra, ac, cd, cx, cy, ln, rg, ct, bE, bA, bV, hea, pn, wd, wr, K, O, A, Wt, R, S, Pl, nd, ar, rW, rV) 0)
    (h : ∀ nd ar rW rV : Nat → Int32, so_ri K A Wt g N rW rV → post (nI nP, nI nW, nI nD, nI nL, nI E, nI G, ra, nI N, cd, cx, cy, ln, rg, ct, bE, bA, bV, hea, pn, wd, wr, K, O, A, Wt, R, S, Pl, nd, ar, rW, rV)) : wpX_replay post (nI nP, nI nW, nI nD, nI nL, nI E, nI G, ra, ac, cd, cx, cy, ln, rg, ct, bE, bA, bV, hea, pn, wd, wr, K, O, A, Wt, R, S, Pl, nd, ar, rW, rV) := by
  unfold wpX_replay
  dsimp only
  refine har _ (fun nd ar ha => ?_)
  have k49 : ∃ n, wX_replay_49 post (nI nP) (nI nW) (nI nD) (nI nL) (nI E) (nI G) ra (nI N) n 0 cd cx cy ln rg ct bE bA bV hea pn wd wr K O A Wt R S Pl nd ar (so_fill rW 0 8) (so_fill rV 0 24) := by
    refine ⟨N + 1, so_xr49 hN (fun j hj => ⟨(hg j hj).1, ha j hj, (hg j hj).2⟩) hinj (fun rW rV hr => h nd ar rW rV hr) N 0 (N + 1) _ _ (by omega) (by omega) ⟨fun a ha => so_fill_in ha, fun j hj => by omega, fun e he _ => so_fill_in he⟩⟩
  have k28 : wX_replay_28 post (nI nP) (nI nW) (nI nD) (nI nL) (nI E) (nI G) ra (nI N) 25 (nI 0) cd cx cy ln rg ct bE bA bV hea pn wd wr K O A Wt R S Pl nd ar (so_fill rW 0 8) (so_fill rV 0 0) := so_xr28 rV k49 24 0 25 (by omega) (by omega)
  rw [so_fill_0] at k28
  have k7 : wX_replay_7 post (nI nP) (nI nW) (nI nD) (nI nL) (nI E) (nI G) ra (nI N) 9 (nI 0) cd cx cy ln rg ct bE bA bV hea pn wd wr K O A Wt R S Pl nd ar (so_fill rW 0 0) rV := so_xr7 rW ⟨25, k28⟩ 8 0 9 (by omega) (by omega)
  rw [so_fill_0] at k7
  exact ⟨9, k7⟩
/-- the scan of the reference for the place of e in the list -/
theorem so_yrr {post : Int32 → SY → Prop} {N : Nat} {g : Nat → Nat} {a : Nat} {v : Int32} (he : e < 24) (hN : N ≤ 24) (hg : ∀ j, j < N → g j < 24 ∧ li j = nI (g j)) (hA : A e = nI a)
    (hy : ∀ j, j < N → g j = e → v = so_wa K A Wt g a j) (hn : (∀ j, j < N → g j ≠ e) → v = 0) (h : post v (nI nP, nI nW, nI nD, nI nL, nI E, ra, cd, cx, cy, ln, rg, ct, K, O, A, Wt, R, S, Pl, md, li, lt)) :
    ∀ (k i n : Nat), i + k = N → k < n → (∀ j, j < i → g j ≠ e) → wY_replayRead_32 post (nI e) (nI N) (nI nP) (nI nW) (nI nD) (nI nL) (nI E) ra cd cx cy ln rg ct K O A Wt R S Pl md li lt n (nI i) := by
  intro k
  induction k with
  | zero =>
    intro i n hi hk hb
    obtain ⟨m', rfl⟩ : ∃ m, n = m + 1 := ⟨n - 1, by omega⟩
    obtain rfl : i = N := by omega
    rw [hn hb] at h
    exact br_t (nI_le (Nat.le_refl _) (by omega)) h
  | succ k ih =>
    intro i n hi hk hb
    obtain ⟨m', rfl⟩ : ∃ m, n = m + 1 := ⟨n - 1, by omega⟩
    have c := so_cl (e := i) (by omega)
    have c2 := so_cl (e := e) (by omega)
    have hv := vp_in_nI (n := i) (N := 24) (by omega) (by decide)
    obtain ⟨g1, g2⟩ := hg i (by omega)
    rw [wY_replayRead_32]
    dsimp only
    rw [c, g2, c2, hA]
    refine br_f (nI_ge (by omega) (by omega)) ⟨hv, br_c (fun q => ⟨vp_in_nI he (by decide), so_ywa (g := g) (by omega) (fun j hj => hg j (by omega)) ?_⟩) (fun q => nm_r (nI_1 i) (ih (i + 1) m' (by omega) (by omega) (fun j hj => ?_)))⟩
    · rw [← hy i (by omega) (so_inj (by omega) (by omega) q)]
      exact h
    · by_cases z : j = i
      · rw [z]
        exact fun z => q (by rw [z])
      · exact hb j (by omega)
/-- how many memory events -/
theorem so_xcm {post : Int32 → SX → Prop} {N : Nat} (hE : E ≤ 24) (h : post (so_b (decide (nI N = nI (so_cnt (so_M K) E 0)))) (nI nP, nI nW, nI nD, nI nL, nI E, nI G, ra, nI N, cd, cx, cy, ln, rg, ct, bE, bA, bV, hea, pn, wd, wr, K, O, A, Wt, R, S, Pl, nd, ar, rW, rV)) : ∃ n, wX_consistent_19 post (nI nP) (nI nW) (nI nD) (nI nL) (nI E) (nI G) ra (nI N) cd cx cy ln rg ct bE bA bV hea pn wd wr K O A Wt R S Pl nd ar rW rV n 0 0 := by
  refine ⟨E + 1, so_lcnt (fun n c z => wX_consistent_19 post (nI nP) (nI nW) (nI nD) (nI nL) (nI E) (nI G) ra (nI N) cd cx cy ln rg ct bE bA bV hea pn wd wr K O A Wt R S Pl nd ar rW rV n c z) (fun r => post (so_b (decide (nI N = r))) (nI nP, nI nW, nI nD, nI nL, nI E, nI G, ra, nI N, cd, cx, cy, ln, rg, ct, bE, bA, bV, hea, pn, wd, wr, K, O, A, Wt, R, S, Pl, nd, ar, rW, rV)) (so_M K) E (fun n c hp => ?_) (fun n i c hi ht hf => ?_) E 0 (E + 1) 0 (by omega) (by omega) ?_⟩
  · refine br_t (nI_le (Nat.le_refl _) (by omega)) (br_c (fun q => ?_) (fun q => ?_))
    · rw [decide_eq_true q] at hp
      exact hp
    · rw [decide_eq_false q] at hp
      exact hp
  · exact br_f (nI_ge hi (by omega)) (so_xM (by omega) (so_br (fun q => nm_r (nI_1 i) (hf q)) (fun q => nm_r (nI_1 c) (nm_r (nI_1 i) (ht q)))))
  · rw [Nat.zero_add]
    exact h
theorem so_ycm {post : Int32 → SY → Prop} {m : Int32} {N : Nat} {C : (Nat → Int32) → Prop} (hE : E ≤ 24)
    (har : ∀ post : Int32 → SY → Prop, (∀ li lt : Nat → Int32, C li → post (nI N) (nI nP, nI nW, nI nD, nI nL, nI E, ra, cd, cx, cy, ln, rg, ct, K, O, A, Wt, R, S, Pl, md, li, lt)) → wpY_arrange post (nI nP, nI nW, nI nD, nI nL, nI E, ra, cd, cx, cy, ln, rg, ct, K, O, A, Wt, R, S, Pl, md, li, lt) m)
    (h : ∀ li lt : Nat → Int32, post (so_b (decide (nI N = nI (so_cnt (so_M K) E 0)))) (nI nP, nI nW, nI nD, nI nL, nI E, ra, cd, cx, cy, ln, rg, ct, K, O, A, Wt, R, S, Pl, md, li, lt)) : ∃ n, wY_consistent_15 post m (nI nP) (nI nW) (nI nD) (nI nL) (nI E) ra cd cx cy ln rg ct K O A Wt R S Pl md li lt n 0 0 := by
  refine ⟨E + 1, so_lcnt (fun n c z => wY_consistent_15 post m (nI nP) (nI nW) (nI nD) (nI nL) (nI E) ra cd cx cy ln rg ct K O A Wt R S Pl md li lt n c z) (fun r' => ∀ li lt : Nat → Int32, post (so_b (decide (nI N = r'))) (nI nP, nI nW, nI nD, nI nL, nI E, ra, cd, cx, cy, ln, rg, ct, K, O, A, Wt, R, S, Pl, md, li, lt)) (so_M K) E (fun n c hp => ?_) (fun n i c hi ht hf => ?_) E 0 (E + 1) 0 (by omega) (by omega) ?_⟩
  · refine br_t (nI_le (Nat.le_refl _) (by omega)) (har _ (fun li lt _ => br_c (fun q => ?_) (fun q => ?_)))
    · have := hp li lt
      rw [decide_eq_true q] at this
      exact this
    · have := hp li lt
      rw [decide_eq_false q] at this
      exact this
  · have c2 := so_cl (e := i) (by omega)
    have hv := vp_in_nI (n := i) (N := 24) (by omega) (by decide)
    rw [wY_consistent_15]
    dsimp only
    rw [c2]
    exact br_f (nI_ge hi (by omega)) ⟨hv, br_c (fun q => nm_r (nI_1 i) (hf (by simp [so_M, q]))) (fun q => nm_r (nI_1 c) (nm_r (nI_1 i) (ht (by simp [so_M, q]))))⟩
  · rw [Nat.zero_add]
    exact h
end
end
section
/-! ===== the invariant, and what keeps it ===== -/
def so_Sz (nP nW nD nL E G : Nat) : Prop := 1 ≤ nP ∧ nP ≤ 4 ∧ 1 ≤ nW ∧ nW ≤ 8 ∧ 1 ≤ nD ∧ nD ≤ 4 ∧ nL ≤ 24 ∧ E ≤ nL ∧ G ≤ E
/-- a register's number -/
def so_rx (x : Int32) : Prop := ∃ a, a < 4 ∧ x = nI a
/-- an instruction as the programs hold it -/
def so_In (nW : Nat) (op x y : Int32) : Prop :=
  (op = 0 ∧ so_rx x) ∨ (op = 1 ∧ so_rx x ∧ so_rx y) ∨ (op = 2 ∧ so_rx x ∧ ∃ b, b ≤ 16 ∧ y = nI b) ∨ ((op = 3 ∨ op = 4 ∨ op = 6) ∧ so_rx x ∧ ∃ b, b < nW ∧ y = nI b) ∨ op = 5
def so_Pr (nP nW : Nat) (cd cx cy ln ct : Nat → Int32) : Prop :=
  ∀ p, p < nP → (∃ l, l ≤ 16 ∧ ln p = nI l ∧ ∀ i, i < l → so_In nW (cd (p * 16 + i)) (cx (p * 16 + i)) (cy (p * 16 + i))) ∧ ∃ c, c ≤ 16 ∧ ct p = nI c
def so_Ev (nW E : Nat) (K A S : Nat → Int32) : Prop :=
  ∀ e, e < E → (K e = 3 ∨ K e = 4 ∨ K e = 5 ∨ K e = 6) ∧ (¬ K e = 5 → ∃ a, a < nW ∧ A e = nI a) ∧ (S e = -1 ∨ ∃ s, s < E ∧ S e = nI s)
/-- e has a place truly given -/
def so_mk (md : Nat → Int32) (e : Nat) : Bool := !decide (md e < 0)
def so_Md (E G : Nat) (Pl md : Nat → Int32) : Prop := G = so_cnt (so_mk md) E 0 ∧ ∀ e, e < E → (md e = -1 ∧ Pl e = -1) ∨ ∃ m, m < G ∧ md e = nI m
def so_Pm (E G : Nat) (Pl : Nat → Int32) : Prop :=
  ∃ q : Nat → Nat, (∀ i, i < G → q i < E ∧ Pl (q i) = nI i) ∧ ∀ e, e < E → Pl e = -1 ∨ ∃ i, i < G ∧ Pl e = nI i ∧ q i = e
/-- w is the event that last wrote the word a, v the word -/
def so_Wr (E : Nat) (K A Wt md : Nat → Int32) (a : Nat) (w v : Int32) : Prop :=
  (w = -1 ∧ v = 0 ∧ ∀ e, e < E → so_W K e = true → A e = nI a → md e < 0) ∨
  ∃ i, i < E ∧ w = nI i ∧ v = Wt i ∧ so_W K i = true ∧ A i = nI a ∧ ¬ md i < 0 ∧ ∀ e, e < E → e ≠ i → so_W K e = true → A e = nI a → md e < md i
def so_Me (nW E : Nat) (K A Wt md wd wr : Nat → Int32) : Prop := ∀ a, a < nW → so_Wr E K A Wt md a (wr a) (wd a)
/-- the buffer of p: n stores s 0 < s 1 < .. in the ring from h on -/
def so_Bq (E : Nat) (K O A Wt md bE bA bV : Nat → Int32) (p n h : Nat) (s : Nat → Nat) : Prop :=
  (∀ k, k < n → s k < E ∧ bE (p * 4 + (h + k) % 4) = nI (s k) ∧ bA (p * 4 + (h + k) % 4) = A (s k) ∧ bV (p * 4 + (h + k) % 4) = Wt (s k)) ∧ (∀ j k, j < k → k < n → s j < s k) ∧
  (∀ e, e < E → so_pd K O md p e = true → ∃ k, k < n ∧ e = s k) ∧ ∀ k, k < n → so_pd K O md p (s k) = true
def so_Bp (nD E : Nat) (K O A Wt md bE bA bV : Nat → Int32) (p : Nat) (hv pv : Int32) : Prop :=
  ∃ (n h : Nat) (s : Nat → Nat), n ≤ nD ∧ h < 4 ∧ pv = nI n ∧ hv = nI h ∧ so_Bq E K O A Wt md bE bA bV p n h s
def so_Bf (nP nD E : Nat) (K O A Wt md bE bA bV hea pn : Nat → Int32) : Prop := ∀ p, p < nP → so_Bp nD E K O A Wt md bE bA bV p (hea p) (pn p)
def so_I (nP nW nD nL E G : Nat) (ra : Int32) (cd cx cy ln ct bE bA bV hea pn wd wr K O A Wt S Pl md : Nat → Int32) : Prop :=
  so_Sz nP nW nD nL E G ∧ (ra = 0 ∨ ra = 1) ∧ so_Pr nP nW cd cx cy ln ct ∧ so_Ev nW E K A S ∧ so_Md E G Pl md ∧ so_Pm E G Pl ∧ so_Me nW E K A Wt md wd wr ∧ so_Bf nP nD E K O A Wt md bE bA bV hea pn
theorem so_n1G {G : Nat} (h : G < 64) : (-1 : Int32) < nI G := Int32.lt_of_lt_of_le so_n1 (so_nle h)
section
variable {nP nW nD nL E G : Nat} {cd cx cy ln rg ct bE bA bV hea pn wd wr K O A Wt R S Pl md : Nat → Int32} {kk oo aa ww sv mm : Int32}
theorem so_Ev_a (h : so_Ev nW E K A S) (hk : kk = 3 ∨ kk = 4 ∨ kk = 5 ∨ kk = 6) (ha : ¬ kk = 5 → ∃ a, a < nW ∧ aa = nI a) (hs : sv = -1 ∨ ∃ s, s < E ∧ sv = nI s) : so_Ev nW (E + 1) (upd K E kk) (upd A E aa) (upd S E sv) := by
  intro e he
  by_cases q : e = E
  · subst q
    rw [pk_us, pk_us, pk_us]
    refine ⟨hk, ha, ?_⟩
    rcases hs with hs | ⟨s, hs, hv⟩
    · exact Or.inl hs
    · exact Or.inr ⟨s, by omega, hv⟩
  · rw [pk_un q, pk_un q, pk_un q]
    obtain ⟨h1, h2, h3⟩ := h e (by omega)
    refine ⟨h1, h2, ?_⟩
    rcases h3 with h3 | ⟨s, hs, hv⟩
    · exact Or.inl h3
    · exact Or.inr ⟨s, by omega, hv⟩
theorem so_mk_u {v : Int32} {e j : Nat} (h : j ≠ e) : so_mk (upd md e v) j = so_mk md j := by
  unfold so_mk
  rw [pk_un h]
theorem so_Md_0 (h : so_Md E G Pl md) : so_Md (E + 1) G (upd Pl E (-1)) (upd md E (-1)) := by
  refine ⟨?_, fun e he => ?_⟩
  · rw [so_cnt_s, so_cnt_c (g := so_mk md) E 0 (fun j _ hj => so_mk_u (by omega)), ← h.1]
    rw [show so_mk (upd md E (-1)) (0 + E) = false by rw [Nat.zero_add, so_mk, pk_us, decide_eq_true so_n1]; rfl]
    rfl
  · by_cases q : e = E
    · subst q
      exact Or.inl ⟨pk_us, pk_us⟩
    · rw [pk_un q, pk_un q]
      exact h.2 e (by omega)
theorem so_Md_1 (hG : G < 64) (h : so_Md E G Pl md) : so_Md (E + 1) (G + 1) (upd Pl E (nI G)) (upd md E (nI G)) := by
  refine ⟨?_, fun e he => ?_⟩
  · rw [so_cnt_s, so_cnt_c (g := so_mk md) E 0 (fun j _ hj => so_mk_u (by omega)), ← h.1]
    rw [show so_mk (upd md E (nI G)) (0 + E) = true by rw [Nat.zero_add, so_mk, pk_us, decide_eq_false (so_nlt hG)]; rfl]
    rfl
  · by_cases q : e = E
    · subst q
      exact Or.inr ⟨G, by omega, pk_us⟩
    · rw [pk_un q, pk_un q]
      rcases h.2 e (by omega) with h1 | ⟨m, h1, h2⟩
      · exact Or.inl h1
      · exact Or.inr ⟨m, by omega, h2⟩
theorem so_cnt_1 {f g : Nat → Bool} {x : Nat} (hf : f x = false) (hg : g x = true) (ho : ∀ j, j ≠ x → g j = f j) : ∀ (k i : Nat), i ≤ x → x < i + k → so_cnt g k i = so_cnt f k i + 1 := by
  intro k
  induction k with
  | zero =>
    intro i h1 h2
    omega
  | succ k ih =>
    intro i h1 h2
    rw [so_cnt, so_cnt]
    by_cases q : i = x
    · subst q
      rw [hf, hg, so_cnt_c (g := f) k (i + 1) (fun j h3 _ => ho j (by omega)), if_pos rfl, if_neg (by decide)]
      omega
    · rw [ho i q, ih (i + 1) (by omega) (by omega)]
      omega
/-- a place given to an event that had none -/
theorem so_Md_d {e0 : Nat} (hG : G < 64) (he : e0 < E) (hm : md e0 < 0) (h : so_Md E G Pl md) : so_Md E (G + 1) (upd Pl e0 (nI G)) (upd md e0 (nI G)) := by
  refine ⟨?_, fun e he' => ?_⟩
  · rw [so_cnt_1 (f := so_mk md) (x := e0) (by rw [so_mk, decide_eq_true hm]; rfl) (by rw [so_mk, pk_us, decide_eq_false (so_nlt hG)]; rfl) (fun j hj => so_mk_u hj) E 0 (by omega) (by omega), ← h.1]
  · by_cases q : e = e0
    · subst q
      exact Or.inr ⟨G, by omega, pk_us⟩
    · rw [pk_un q, pk_un q]
      rcases h.2 e he' with h1 | ⟨m, h1, h2⟩
      · exact Or.inl h1
      · exact Or.inr ⟨m, by omega, h2⟩
theorem so_Md_p {e0 : Nat} (hG : G < 64) (he : e0 < E) (hm : md e0 < 0) (h : so_Md E G Pl md) : Pl e0 = -1 := by
  rcases h.2 e0 he with h1 | ⟨m, h1, h2⟩
  · exact h1.2
  · rw [h2] at hm
    exact absurd hm (so_nlt (by omega))
theorem so_Md_l {e : Nat} (hG : G < 64) (he : e < E) (h : so_Md E G Pl md) : md e < nI G := by
  rcases h.2 e he with h1 | ⟨m, h1, h2⟩
  · rw [h1.1]
    exact so_n1G hG
  · rw [h2]
    exact nI_lt h1 (by omega)
theorem so_Pm_0 (h : so_Pm E G Pl) : so_Pm (E + 1) G (upd Pl E (-1)) := by
  obtain ⟨q, h1, h2⟩ := h
  refine ⟨q, fun i hi => ?_, fun e he => ?_⟩
  · obtain ⟨a, b⟩ := h1 i hi
    exact ⟨by omega, by rw [pk_un (by omega)]; exact b⟩
  · by_cases z : e = E
    · subst z
      exact Or.inl pk_us
    · rw [pk_un z]
      exact h2 e (by omega)
theorem so_Pm_x (E' : Nat) (hE : E ≤ E') {e0 : Nat} (hG : G < 64) (he : e0 < E') (hp : e0 < E → Pl e0 = -1) (hn : ∀ e, e < E' → E ≤ e → e = e0) (h : so_Pm E G Pl) : so_Pm E' (G + 1) (upd Pl e0 (nI G)) := by
  obtain ⟨q, h1, h2⟩ := h
  refine ⟨fun i => if i = G then e0 else q i, fun i hi => ?_, fun e he => ?_⟩
  · dsimp only
    by_cases z : i = G
    · subst z
      rw [if_pos rfl]
      exact ⟨he, pk_us⟩
    · rw [if_neg z]
      obtain ⟨a, b⟩ := h1 i (by omega)
      refine ⟨by omega, ?_⟩
      rw [pk_un]
      · exact b
      · intro w
        rw [w] at a b
        rw [hp a] at b
        exact so_ne1 (by omega) b.symm
  · by_cases z : e = e0
    · subst z
      refine Or.inr ⟨G, by omega, pk_us, ?_⟩
      dsimp only
      rw [if_pos rfl]
    · rw [pk_un z]
      have : e < E := by
        by_cases w : e < E
        · exact w
        · exact absurd (hn e he (by omega)) z
      rcases h2 e this with h3 | ⟨i, h3, h4, h5⟩
      · exact Or.inl h3
      · refine Or.inr ⟨i, by omega, h4, ?_⟩
        dsimp only
        rw [if_neg (by omega)]
        exact h5
/-- the words behind a new event that is no made write to a -/
theorem so_Wr_a {a : Nat} {w v : Int32} (hc : (kk = 4 ∨ kk = 6) → aa = nI a → mm < 0) (h : so_Wr E K A Wt md a w v) : so_Wr (E + 1) (upd K E kk) (upd A E aa) (upd Wt E ww) (upd md E mm) a w v := by
  have hu : ∀ e, e ≠ E → so_W (upd K E kk) e = so_W K e := by
    intro e he
    unfold so_W
    rw [pk_un he]
  have hE : so_W (upd K E kk) E = true → upd A E aa E = nI a → upd md E mm E < 0 := by
    intro h1 h2
    rw [pk_us] at h2 ⊢
    refine hc ?_ h2
    unfold so_W at h1
    rw [pk_us] at h1
    simpa using h1
  rcases h with ⟨h1, h2, h3⟩ | ⟨i, h1, h2, h3, h4, h5, h6, h7⟩
  · refine Or.inl ⟨h1, h2, fun e he hw hA => ?_⟩
    by_cases q : e = E
    · subst q
      exact hE hw hA
    · rw [hu e q] at hw
      rw [pk_un q] at hA ⊢
      exact h3 e (by omega) hw hA
  · have hi : i ≠ E := by omega
    refine Or.inr ⟨i, by omega, h2, by rw [pk_un hi]; exact h3, by rw [hu i hi]; exact h4, by rw [pk_un hi]; exact h5, by rw [pk_un hi]; exact h6, fun e he hne hw hA => ?_⟩
    rw [pk_un (f := md) hi]
    by_cases q : e = E
    · subst q
      exact Int32.lt_of_lt_of_le (hE hw hA) (Int32.not_lt.mp h6)
    · rw [hu e q] at hw
      rw [pk_un q] at hA ⊢
      exact h7 e (by omega) hne hw hA
/-- the words behind a new exchange at a -/
theorem so_Wr_x {a : Nat} (hG : G < 64) (hm : so_Md E G Pl md) : so_Wr (E + 1) (upd K E 6) (upd A E (nI a)) (upd Wt E ww) (upd md E (nI G)) a (nI E) ww := by
  refine Or.inr ⟨E, by omega, rfl, by rw [pk_us], by simp [so_W, pk_us], pk_us, by rw [pk_us]; exact so_nlt hG, fun e he hne _ _ => ?_⟩
  rw [pk_us, pk_un hne]
  exact so_Md_l hG (by omega) hm
/-- the words behind a drain of e0 -/
theorem so_Wr_d {a e0 : Nat} (hG : G < 64) (hm : so_Md E G Pl md) (he : e0 < E) (hw : so_W K e0 = true) (hA : A e0 = nI a) : so_Wr E K A Wt (upd md e0 (nI G)) a (nI e0) (Wt e0) := by
  refine Or.inr ⟨e0, he, rfl, rfl, hw, hA, by rw [pk_us]; exact so_nlt hG, fun e he hne _ _ => ?_⟩
  rw [pk_us, pk_un hne]
  exact so_Md_l hG he hm
theorem so_Wr_o {a e0 : Nat} {w v x : Int32} (hA : ¬ A e0 = nI a) (h : so_Wr E K A Wt md a w v) : so_Wr E K A Wt (upd md e0 x) a w v := by
  rcases h with ⟨h1, h2, h3⟩ | ⟨i, h1, h2, h3, h4, h5, h6, h7⟩
  · refine Or.inl ⟨h1, h2, fun e he hw hA' => ?_⟩
    have hn : e ≠ e0 := fun z => hA (z ▸ hA')
    rw [pk_un hn]
    exact h3 e he hw hA'
  · have hi : i ≠ e0 := fun z => hA (z ▸ h5)
    refine Or.inr ⟨i, h1, h2, h3, h4, h5, by rw [pk_un hi]; exact h6, fun e he hne hw hA' => ?_⟩
    have hn : e ≠ e0 := fun z => hA (z ▸ hA')
    rw [pk_un hi, pk_un hn]
    exact h7 e he hne hw hA'
/-! buffers -/
theorem so_Bq_c {K' O' A' Wt' md' bE' bA' bV' : Nat → Int32} {p n h : Nat} {s : Nat → Nat} (hA : ∀ e, e < E → A' e = A e) (hW : ∀ e, e < E → Wt' e = Wt e) (hp : ∀ e, e < E → so_pd K' O' md' p e = so_pd K O md p e)
    (h1 : ∀ x, x < 4 → bE' (p * 4 + x) = bE (p * 4 + x)) (h2 : ∀ x, x < 4 → bA' (p * 4 + x) = bA (p * 4 + x)) (h3 : ∀ x, x < 4 → bV' (p * 4 + x) = bV (p * 4 + x)) (H : so_Bq E K O A Wt md bE bA bV p n h s) : so_Bq E K' O' A' Wt' md' bE' bA' bV' p n h s := by
  obtain ⟨g1, g2, g3, g4⟩ := H
  refine ⟨fun k hk => ?_, g2, fun e he hpd => g3 e he (by rw [← hp e he]; exact hpd), fun k hk => ?_⟩
  · obtain ⟨a, b, c, d⟩ := g1 k hk
    have hm : (h + k) % 4 < 4 := Nat.mod_lt _ (by decide)
    exact ⟨a, by rw [h1 _ hm]; exact b, by rw [h2 _ hm, hA _ a]; exact c, by rw [h3 _ hm, hW _ a]; exact d⟩
  · rw [hp _ (g1 k hk).1]
    exact g4 k hk
theorem so_Bq_e {p n h : Nat} {s : Nat → Nat} (hp : so_pd K O md p E = false) (H : so_Bq E K O A Wt md bE bA bV p n h s) : so_Bq (E + 1) K O A Wt md bE bA bV p n h s := by
  obtain ⟨g1, g2, g3, g4⟩ := H
  refine ⟨fun k hk => ?_, g2, fun e he hpd => ?_, g4⟩
  · obtain ⟨a, b⟩ := g1 k hk
    exact ⟨by omega, b⟩
  · by_cases q : e = E
    · rw [q, hp] at hpd
      exact absurd hpd (by decide)
    · exact g3 e (by omega) hpd
/-- the new event as the newest store of p -/
theorem so_Bq_n {p n h : Nat} {s : Nat → Nat} (hn : n < 4) (hp : so_pd K O md p E = true) (H : so_Bq E K O A Wt md bE bA bV p n h s) :
    so_Bq (E + 1) K O A Wt md (upd bE (p * 4 + (h + n) % 4) (nI E)) (upd bA (p * 4 + (h + n) % 4) (A E)) (upd bV (p * 4 + (h + n) % 4) (Wt E)) p (n + 1) h (fun k => if k = n then E else s k) := by
  obtain ⟨g1, g2, g3, g4⟩ := H
  refine ⟨fun k hk => ?_, fun j k hj hk => ?_, fun e he hpd => ?_, fun k hk => ?_⟩
  · dsimp only
    by_cases q : k = n
    · subst q
      rw [if_pos rfl, pk_us, pk_us, pk_us]
      exact ⟨by omega, rfl, rfl, rfl⟩
    · rw [if_neg q]
      have hne : p * 4 + (h + k) % 4 ≠ p * 4 + (h + n) % 4 := by omega
      rw [pk_un hne, pk_un hne, pk_un hne]
      obtain ⟨a, b⟩ := g1 k (by omega)
      exact ⟨by omega, b⟩
  · dsimp only
    rw [if_neg (by omega : ¬ j = n)]
    by_cases q : k = n
    · rw [if_pos q]
      exact (g1 j (by omega)).1
    · rw [if_neg q]
      exact g2 j k hj (by omega)
  · by_cases q : e = E
    · refine ⟨n, by omega, ?_⟩
      dsimp only
      rw [if_pos rfl]
      exact q
    · obtain ⟨k, hk, hs⟩ := g3 e (by omega) hpd
      refine ⟨k, by omega, ?_⟩
      dsimp only
      rw [if_neg (by omega)]
      exact hs
  · dsimp only
    by_cases q : k = n
    · rw [if_pos q]
      exact hp
    · rw [if_neg q]
      exact g4 k (by omega)
/-- the oldest store of p leaves the buffer -/
theorem so_Bq_d {p n h : Nat} {s : Nat → Nat} (hG : G < 64) (H : so_Bq E K O A Wt md bE bA bV p (n + 1) h s) :
    so_Bq E K O A Wt (upd md (s 0) (nI G)) bE bA bV p n ((h + 1) % 4) (fun k => s (k + 1)) := by
  obtain ⟨g1, g2, g3, g4⟩ := H
  have hx : ∀ e, e ≠ s 0 → so_pd K O (upd md (s 0) (nI G)) p e = so_pd K O md p e := by
    intro e he
    unfold so_pd
    rw [pk_un he]
  refine ⟨fun k hk => ?_, fun j k hj hk => g2 (j + 1) (k + 1) (by omega) (by omega), fun e he hpd => ?_, fun k hk => ?_⟩
  · have : ((h + 1) % 4 + k) % 4 = (h + (k + 1)) % 4 := by omega
    rw [this]
    exact g1 (k + 1) (by omega)
  · by_cases q : e = s 0
    · rw [q] at hpd
      simp [so_pd, pk_us, so_nlt hG] at hpd
    · rw [hx e q] at hpd
      obtain ⟨k, hk, hs⟩ := g3 e he hpd
      cases k with
      | zero => exact absurd hs q
      | succ k => exact ⟨k, by omega, hs⟩
  · dsimp only
    rw [hx]
    · exact g4 (k + 1) (by omega)
    · have := g2 0 (k + 1) (by omega) (by omega)
      omega
theorem so_pd_u {p e j : Nat} (h : j ≠ e) : so_pd (upd K e kk) (upd O e oo) (upd md e mm) p j = so_pd K O md p j := by
  unfold so_pd
  rw [pk_un h, pk_un h, pk_un h]
theorem so_pd_o {p p' e : Nat} (hp : p < 64) (hp' : p' < 64) (h : p' ≠ p) (hpd : so_pd K O md p e = true) {x : Int32} : ∀ j, so_pd K O (upd md e x) p' j = so_pd K O md p' j := by
  intro j
  by_cases q : j = e
  · subst q
    have hO : O j = nI p := by
      simp only [so_pd, Bool.and_eq_true, decide_eq_true_eq] at hpd
      exact hpd.2.1
    have : ¬ O j = nI p' := by
      rw [hO]
      exact fun z => h (so_inj hp hp' z).symm
    simp [so_pd, this]
  · unfold so_pd
    rw [pk_un q]
end
end
section
/-! ===== the scans of the reference over its events; the ring of the component ===== -/
theorem so_enum {f : Nat → Bool} {s : Nat → Nat} {n E : Nat} (h1 : ∀ k, k < n → s k < E ∧ f (s k) = true) (h2 : ∀ j k, j < k → k < n → s j < s k) (h3 : ∀ e, e < E → f e = true → ∃ k, k < n ∧ e = s k) :
    ∀ (k i c : Nat), i + k = E → c ≤ n → (∀ j, j < c → s j < i) → (∀ j, c ≤ j → j < n → i ≤ s j) → c + so_cnt f k i = n := by
  intro k
  induction k with
  | zero =>
    intro i c hi hc ha hb
    rw [so_cnt, Nat.add_zero]
    by_cases q : c = n
    · exact q
    · have := hb c (Nat.le_refl _) (by omega)
      have := (h1 c (by omega)).1
      omega
  | succ k ih =>
    intro i c hi hc ha hb
    rw [so_cnt]
    cases hf : f i
    · rw [if_neg (by decide), Nat.zero_add]
      refine ih (i + 1) c (by omega) hc (fun j hj => Nat.lt_succ_of_lt (ha j hj)) (fun j h4 h5 => ?_)
      have h6 := hb j h4 h5
      have h7 : s j ≠ i := by
        intro z
        have := (h1 j h5).2
        rw [z, hf] at this
        exact absurd this (by decide)
      omega
    · obtain ⟨t, ht, hs⟩ := h3 i (by omega) hf
      have hct : t = c := by
        have g1 : ¬ t < c := by
          intro z
          have := ha t z
          omega
        have g2 : ¬ c < t := by
          intro z
          have := h2 c t z ht
          have := hb c (Nat.le_refl _) (by omega)
          omega
        omega
      subst hct
      rw [if_pos rfl, ← Nat.add_assoc]
      refine ih (i + 1) (t + 1) (by omega) (by omega) (fun j hj => ?_) (fun j h4 h5 => ?_)
      · by_cases z : j = t
        · rw [z]
          omega
        · have := ha j (by omega)
          omega
      · have := h2 t j (by omega) h5
        omega
/-- the last below n that has f, if any -/
theorem so_last (f : Nat → Bool) : ∀ n : Nat, (∀ k, k < n → f k = false) ∨ ∃ k, k < n ∧ f k = true ∧ ∀ j, k < j → j < n → f j = false := by
  intro n
  induction n with
  | zero => exact Or.inl (fun k hk => by omega)
  | succ n ih =>
    cases h : f n
    · rcases ih with ih | ⟨k, h1, h2, h3⟩
      · refine Or.inl (fun k hk => ?_)
        by_cases q : k = n
        · rw [q]
          exact h
        · exact ih k (by omega)
      · refine Or.inr ⟨k, by omega, h2, fun j hj hk => ?_⟩
        by_cases q : j = n
        · rw [q]
          exact h
        · exact h3 j hj (by omega)
    · exact Or.inr ⟨n, by omega, h, fun j hj hk => by omega⟩
section
variable {nP nW nD nL E G : Nat} {ra ac : Int32} {cd cx cy ln rg ct bE bA bV hea pn wd wr K O A Wt R S Pl nd ar rW rV md li lt : Nat → Int32}
variable {post : Int32 → Prop} {p a : Nat}
theorem so_ypn {n h : Nat} {s : Nat → Nat} (hE : E ≤ 24) (H : so_Bq E K O A Wt md bE bA bV p n h s) (hp : post (nI n)) : wpY_pending post (nI nP, nI nW, nI nD, nI nL, nI E, ra, cd, cx, cy, ln, rg, ct, K, O, A, Wt, R, S, Pl, md, li, lt) (nI p) := by
  unfold wpY_pending
  dsimp only
  obtain ⟨g1, g2, g3, g4⟩ := H
  have hc := so_enum (f := so_pd K O md p) (fun k hk => ⟨(g1 k hk).1, g4 k hk⟩) g2 g3 E 0 0 (by omega) (by omega) (fun j hj => by omega) (fun j _ _ => by omega)
  refine ⟨E + 1, so_lcnt (fun n c z => wY_pending_4 post (nI p) (nI nP) (nI nW) (nI nD) (nI nL) (nI E) ra cd cx cy ln rg ct K O A Wt R S Pl md li lt n c z) post (so_pd K O md p) E (fun n c hp => ?_) (fun n i c hi ht hf => ?_) E 0 (E + 1) 0 (by omega) (by omega) ?_⟩
  · exact br_t (nI_le (Nat.le_refl _) (by omega)) hp
  · exact br_f (nI_ge hi (by omega)) (so_ypd (by omega) (so_br (fun q => nm_r (nI_1 i) (hf q)) (fun q => nm_r (nI_1 c) (nm_r (nI_1 i) (ht q)))))
  · rw [hc]
    exact hp
theorem so_ygv (hE : E ≤ 24) (hp : post (nI (so_cnt (so_mk md) E 0))) : wpY_given post (nI nP, nI nW, nI nD, nI nL, nI E, ra, cd, cx, cy, ln, rg, ct, K, O, A, Wt, R, S, Pl, md, li, lt) := by
  unfold wpY_given
  dsimp only
  refine ⟨E + 1, so_lcnt (fun n c z => wY_given_4 post (nI nP) (nI nW) (nI nD) (nI nL) (nI E) ra cd cx cy ln rg ct K O A Wt R S Pl md li lt n c z) post (so_mk md) E (fun n c hp => ?_) (fun n i c hi ht hf => ?_) E 0 (E + 1) 0 (by omega) (by omega) ?_⟩
  · exact br_t (nI_le (Nat.le_refl _) (by omega)) hp
  · have c2 := so_cl (e := i) (by omega)
    have hv := vp_in_nI (n := i) (N := 24) (by omega) (by decide)
    rw [wY_given_4]
    dsimp only
    rw [c2]
    exact br_f (nI_ge hi (by omega)) ⟨hv, br_c (fun q => nm_r (nI_1 i) (hf (by simp [so_mk, q]))) (fun q => nm_r (nI_1 c) (nm_r (nI_1 i) (ht (by simp [so_mk, q]))))⟩
  · rw [Nat.zero_add]
    exact hp
theorem so_ylw {w v : Int32} (hE : E ≤ 24) (H : so_Wr E K A Wt md a w v) (hp : post w) : wpY_lastWriter post (nI nP, nI nW, nI nD, nI nL, nI E, ra, cd, cx, cy, ln, rg, ct, K, O, A, Wt, R, S, Pl, md, li, lt) (nI a) := by
  unfold wpY_lastWriter
  dsimp only
  have key : ∀ (k i n : Nat) (b : Int32), i + k = E → k < n → (b = -1 ∨ ∃ j, j < i ∧ b = nI j ∧ so_W K j = true ∧ A j = nI a ∧ ¬ md j < 0) → (∀ i0, i0 < i → w = nI i0 → b = w) → wY_lastWriter_4 post (nI a) (nI nP) (nI nW) (nI nD) (nI nL) (nI E) ra cd cx cy ln rg ct K O A Wt R S Pl md li lt n b (nI i) := by
    intro k
    induction k with
    | zero =>
      intro i n b hi hn h1 h2
      obtain ⟨m', rfl⟩ : ∃ m, n = m + 1 := ⟨n - 1, by omega⟩
      obtain rfl : i = E := by omega
      have hb : b = w := by
        rcases H with ⟨g1, g2, g3⟩ | ⟨i0, g1, g2, _⟩
        · rcases h1 with h1 | ⟨j, j1, j2, j3, j4, j5⟩
          · rw [h1, g1]
          · exact absurd (g3 j j1 j3 j4) j5
        · exact h2 i0 g1 g2
      rw [← hb] at hp
      exact br_t (nI_le (Nat.le_refl _) (by omega)) hp
    | succ k ih =>
      intro i n b hi hn h1 h2
      obtain ⟨m', rfl⟩ : ∃ m, n = m + 1 := ⟨n - 1, by omega⟩
      have c := so_cl (e := i) (by omega)
      have hv := vp_in_nI (n := i) (N := 24) (by omega) (by decide)
      have h1' : b = -1 ∨ ∃ j, j < i + 1 ∧ b = nI j ∧ so_W K j = true ∧ A j = nI a ∧ ¬ md j < 0 := by
        rcases h1 with h1 | ⟨j, j1, j2⟩
        · exact Or.inl h1
        · exact Or.inr ⟨j, by omega, j2⟩
      have hw : w = nI i → so_W K i = true ∧ A i = nI a ∧ ¬ md i < 0 ∧ ∀ e, e < E → e ≠ i → so_W K e = true → A e = nI a → md e < md i := by
        intro z
        rcases H with ⟨g1, _⟩ | ⟨i0, g1, g2, g3, g4, g5, g6, g7⟩
        · exact absurd (z.symm.trans g1) (so_ne1 (by omega))
        · have : i0 = i := so_inj (by omega) (by omega) (g2.symm.trans z)
          subst this
          exact ⟨g4, g5, g6, g7⟩
      have keep : ¬ (w = nI i) → wY_lastWriter_4 post (nI a) (nI nP) (nI nW) (nI nD) (nI nL) (nI E) ra cd cx cy ln rg ct K O A Wt R S Pl md li lt m' b (nI (i + 1)) := by
        intro z
        refine ih (i + 1) m' b (by omega) (by omega) h1' (fun i0 hi0 hw0 => ?_)
        by_cases q : i0 = i
        · rw [q] at hw0
          exact absurd hw0 z
        · exact h2 i0 (by omega) hw0
      have take : so_W K i = true → A i = nI a → ¬ md i < 0 → (∀ i0, i0 < i → ¬ w = nI i0) → wY_lastWriter_4 post (nI a) (nI nP) (nI nW) (nI nD) (nI nL) (nI E) ra cd cx cy ln rg ct K O A Wt R S Pl md li lt m' (nI i) (nI (i + 1)) := by
        intro q1 q2 q3 q4
        refine ih (i + 1) m' (nI i) (by omega) (by omega) (Or.inr ⟨i, by omega, rfl, q1, q2, q3⟩) (fun i0 hi0 hw0 => ?_)
        by_cases q : i0 = i
        · rw [hw0, q]
        · exact absurd hw0 (q4 i0 (by omega))
      rw [wY_lastWriter_4]
      dsimp only
      rw [c]
      refine br_f (nI_ge (by omega) (by omega)) (so_yW (by omega) (so_br (fun q1 => nm_r (nI_1 i) (keep (fun z => ?_))) (fun q1 => ⟨hv, br_c (fun q2 => ⟨hv, br_c (fun q3 => nm_r (nI_1 i) (keep (fun z => (hw z).2.2.1 q3))) (fun q3 => ?_)⟩) (fun q2 => nm_r (nI_1 i) (keep (fun z => q2 (hw z).2.1)))⟩)))
      · rw [(hw z).1] at q1
        exact absurd q1 (by decide)
      · rcases h1 with h1 | ⟨j, j1, j2, j3, j4, j5⟩
        · rw [h1]
          refine br_t so_n1 (nm_r (nI_1 i) (take q1 q2 q3 (fun i0 hi0 hw0 => ?_)))
          have := h2 i0 hi0 hw0
          rw [h1, hw0] at this
          exact so_ne1 (by omega) this.symm
        · have cj := so_cl (e := j) (by omega)
          have hvj := vp_in_nI (n := j) (N := 24) (by omega) (by decide)
          rw [j2, cj]
          refine br_f (so_nlt (by omega)) ⟨hv, hvj, br_c (fun q4 => nm_r (nI_1 i) ?_) (fun q4 => nm_r (nI_1 i) (take q1 q2 q3 (fun i0 hi0 hw0 => ?_)))⟩
          · rw [← j2]
            refine keep (fun z => ?_)
            have := (hw z).2.2.2 j (by omega) (by omega) j3 j4
            exact Int32.not_le.mpr this q4
          · have hj : j = i0 := so_inj (by omega) (by omega) (j2.symm.trans ((h2 i0 hi0 hw0).trans hw0))
            subst hj
            rcases H with ⟨g1, _⟩ | ⟨i1, g1, g2, g3, g4, g5, g6, g7⟩
            · exact so_ne1 (by omega) (hw0.symm.trans g1)
            · have : i1 = j := so_inj (by omega) (by omega) (g2.symm.trans hw0)
              subst this
              exact q4 (Int32.le_of_lt (g7 i (by omega) (by omega) q1 q2))
  exact ⟨E + 1, key E 0 (E + 1) (-1) (by omega) (by omega) (Or.inl rfl) (fun i0 hi0 => by omega)⟩
theorem so_ymem {w v : Int32} (hW : nW ≤ 8) (ha : a < nW) (hE : E ≤ 24) (H : so_Wr E K A Wt md a w v) (hp : post v) : wpY_memory post (nI nP, nI nW, nI nD, nI nL, nI E, ra, cd, cx, cy, ln, rg, ct, K, O, A, Wt, R, S, Pl, md, li, lt) (nI a) := by
  unfold wpY_memory
  dsimp only
  refine br_f (nI_pos (by omega)) (br_t (nI_lt ha (by omega)) (so_ylw hE H ?_))
  rcases H with ⟨g1, g2, _⟩ | ⟨i, g1, g2, g3, _⟩
  · rw [g1]
    rw [g2] at hp
    exact br_f so_n1' hp
  · rw [g2, so_cl (by omega)]
    rw [g3] at hp
    exact br_t (so_nle (by omega)) ⟨vp_in_nI (by omega) (by decide), hp⟩
/-- the scan of the reference for the newest store of p to a, over the last writer w: r -/
theorem so_ysn {n h : Nat} {s : Nat → Nat} {w v r : Int32} (hE : E ≤ 24) (H : so_Bq E K O A Wt md bE bA bV p n h s) (Hw : so_Wr E K A Wt md a w v)
    (hr : ((∀ k, k < n → ¬ A (s k) = nI a) ∧ r = w) ∨ ∃ k, k < n ∧ A (s k) = nI a ∧ (∀ j, k < j → j < n → ¬ A (s j) = nI a) ∧ r = nI (s k)) (hp : post r) : wpY_seen post (nI nP, nI nW, nI nD, nI nL, nI E, ra, cd, cx, cy, ln, rg, ct, K, O, A, Wt, R, S, Pl, md, li, lt) (nI p) (nI a) := by
  unfold wpY_seen
  dsimp only
  refine so_ylw hE Hw ?_
  obtain ⟨g1, g2, g3, g4⟩ := H
  have key : ∀ (k i m : Nat) (b : Int32), i + k = E → k < m → ((∀ j, j < n → i ≤ s j → ¬ A (s j) = nI a) → b = r) → wY_seen_9 post (nI p) (nI a) (nI nP) (nI nW) (nI nD) (nI nL) (nI E) ra cd cx cy ln rg ct K O A Wt R S Pl md li lt m b (nI i) := by
    intro k
    induction k with
    | zero =>
      intro i m b hi hm hb
      obtain ⟨m', rfl⟩ : ∃ m0, m = m0 + 1 := ⟨m - 1, by omega⟩
      obtain rfl : i = E := by omega
      rw [← hb (fun j hj hs => by have := (g1 j hj).1; omega)] at hp
      exact br_t (nI_le (Nat.le_refl _) (by omega)) hp
    | succ k ih =>
      intro i m b hi hm hb
      obtain ⟨m', rfl⟩ : ∃ m0, m = m0 + 1 := ⟨m - 1, by omega⟩
      have c := so_cl (e := i) (by omega)
      have hv := vp_in_nI (n := i) (N := 24) (by omega) (by decide)
      have keep : (so_pd K O md p i = true → ¬ A i = nI a) → wY_seen_9 post (nI p) (nI a) (nI nP) (nI nW) (nI nD) (nI nL) (nI E) ra cd cx cy ln rg ct K O A Wt R S Pl md li lt m' b (nI (i + 1)) := by
        intro z
        refine ih (i + 1) m' b (by omega) (by omega) (fun ho => hb (fun j hj hs => ?_))
        by_cases q : s j = i
        · rw [q]
          exact z (q ▸ g4 j hj)
        · exact ho j hj (by omega)
      rw [wY_seen_9]
      dsimp only
      rw [c]
      refine br_f (nI_ge (by omega) (by omega)) (so_ypd (by omega) (so_br (fun q1 => nm_r (nI_1 i) (keep (fun z => ?_))) (fun q1 => ⟨hv, br_c (fun q2 => nm_r (nI_1 i) ?_) (fun q2 => nm_r (nI_1 i) (keep (fun _ => q2)))⟩)))
      · rw [q1] at z
        exact absurd z (by decide)
      · obtain ⟨t, ht, hs⟩ := g3 i (by omega) q1
        refine ih (i + 1) m' (nI i) (by omega) (by omega) (fun ho => ?_)
        rcases hr with ⟨hr, _⟩ | ⟨k0, k1, k2, k3, k4⟩
        · exact absurd (hs ▸ q2) (hr t ht)
        · have e1 : ¬ t < k0 := by
            intro z
            have := g2 t k0 z k1
            exact ho k0 k1 (by omega) k2
          have e2 : ¬ k0 < t := fun z => k3 t z ht (hs ▸ q2)
          have : t = k0 := by omega
          rw [k4, ← this, hs]
  refine ⟨E + 1, key E 0 (E + 1) w (by omega) (by omega) (fun ho => ?_)⟩
  rcases hr with ⟨_, hr⟩ | ⟨k0, k1, k2, _⟩
  · exact hr.symm
  · exact absurd k2 (ho k0 k1 (by omega))
/-- the component's walk back through the ring -/
theorem so_xnp {xv : Int32} {n h : Nat} {r : Int32} (hp4 : p < 4) (hn : n ≤ 4) (hh : h < 4) (hpn : pn p = nI n) (hhd : hea p = nI h)
    (hr : ((∀ k, k < n → ¬ bA (p * 4 + (h + k) % 4) = nI a) ∧ r = -1) ∨ ∃ k, k < n ∧ bA (p * 4 + (h + k) % 4) = nI a ∧ (∀ j, k < j → j < n → ¬ bA (p * 4 + (h + j) % 4) = nI a) ∧ r = nI (p * 4 + (h + k) % 4)) (hp : post r) : wpX_newestPending post (nI nP, nI nW, nI nD, nI nL, xv, nI G, ra, ac, cd, cx, cy, ln, rg, ct, bE, bA, bV, hea, pn, wd, wr, K, O, A, Wt, R, S, Pl, nd, ar, rW, rV) (nI p) (nI a) := by
  have c := so_cl (e := p) (by omega)
  have hv := vp_in_nI (n := p) (N := 4) (by omega) (by decide)
  unfold wpX_newestPending
  dsimp only
  rw [c, hpn]
  have key : ∀ (k m : Nat) (x : Int32), k ≤ n → k < m → x + 1 = nI k → (∀ j, k ≤ j → j < n → ¬ bA (p * 4 + (h + j) % 4) = nI a) → wX_newestPending_9 post (nI p) (nI a) (nI nP) (nI nW) (nI nD) (nI nL) xv (nI G) ra ac cd cx cy ln rg ct bE bA bV hea pn wd wr K O A Wt R S Pl nd ar rW rV m x := by
    intro k
    induction k with
    | zero =>
      intro m x hk hm hx hb
      obtain ⟨m', rfl⟩ : ∃ m0, m = m0 + 1 := ⟨m - 1, by omega⟩
      obtain rfl : x = -1 := by
        have : x + 1 + (-1) = nI 0 + (-1) := by rw [hx]
        rw [Int32.add_assoc, show (1 : Int32) + (-1) = 0 from rfl, Int32.add_zero] at this
        rw [this]
        rfl
      rcases hr with ⟨_, hr⟩ | ⟨k0, k1, k2, _⟩
      · rw [hr] at hp
        exact br_t so_n1 hp
      · exact absurd k2 (hb k0 (by omega) k1)
    | succ k ih =>
      intro m x hk hm hx hb
      obtain ⟨m', rfl⟩ : ∃ m0, m = m0 + 1 := ⟨m - 1, by omega⟩
      obtain rfl : x = nI k := by
        have : x + 1 + (-1) = nI (k + 1) + (-1) := by rw [hx]
        rw [Int32.add_assoc, show (1 : Int32) + (-1) = 0 from rfl, Int32.add_zero, pk_m1] at this
        exact this
      have hsl : p * 4 + (h + k) % 4 < 16 := by omega
      rw [wX_newestPending_9]
      dsimp only
      rw [c, hhd, nI_add, so_m4 (by omega), so_i4]
      refine br_f (so_nlt (by omega)) ⟨hv, nm_e ⟨vp_in_nI hsl (by decide), ?_⟩⟩
      rw [so_cl (e := p * 4 + (h + k) % 4) (by omega)]
      refine br_c (fun q => ?_) (fun q => nm_e (ih m' _ (by omega) (by omega) ?_ (fun j hj hn => ?_)))
      · rcases hr with ⟨hr, _⟩ | ⟨k0, k1, k2, k3, k4⟩
        · exact absurd q (hr k (by omega))
        · have e1 : ¬ k < k0 := fun z => hb k0 (by omega) k1 k2
          have e2 : ¬ k0 < k := fun z => k3 k z (by omega) q
          have : k0 = k := by omega
          rw [k4, this] at hp
          exact hp
      · rw [Int32.add_assoc, show (-1 : Int32) + 1 = 0 from rfl, Int32.add_zero]
      · by_cases z : j = k
        · rw [z]
          exact q
        · exact hb j (by omega) hn
  refine ⟨hv, fun x ex => ?_⟩
  subst ex
  refine ⟨n + 1, key n (n + 1) _ (Nat.le_refl _) (by omega) ?_ (fun j hj hn => by omega)⟩
  rw [Int32.sub_add_cancel]
/-- what p sees at a, on both sides: s the event, v the value; sl the component's slot or -1 -/
theorem so_see {xv : Int32} {n h : Nat} {sq : Nat → Nat} {w v : Int32} (hp4 : p < 4) (hn : n ≤ 4) (hh : h < 4) (hpn : pn p = nI n) (hhd : hea p = nI h) (hE : E ≤ 24) (H : so_Bq E K O A Wt md bE bA bV p n h sq) (Hw : so_Wr E K A Wt md a w v) :
    ∃ sl s z : Int32, (∀ post : Int32 → Prop, post sl → wpX_newestPending post (nI nP, nI nW, nI nD, nI nL, xv, nI G, ra, ac, cd, cx, cy, ln, rg, ct, bE, bA, bV, hea, pn, wd, wr, K, O, A, Wt, R, S, Pl, nd, ar, rW, rV) (nI p) (nI a)) ∧ (∀ post : Int32 → Prop, post s → wpY_seen post (nI nP, nI nW, nI nD, nI nL, nI E, ra, cd, cx, cy, ln, rg, ct, K, O, A, Wt, R, S, Pl, md, li, lt) (nI p) (nI a)) ∧
      ((sl = -1 ∧ s = w ∧ z = v) ∨ ∃ t, t < 16 ∧ sl = nI t ∧ bE t = s ∧ bV t = z) ∧ ((s = -1 ∧ z = 0) ∨ ∃ i, i < E ∧ s = nI i ∧ z = Wt i) := by
  have H' := H
  obtain ⟨g1, g2, g3, g4⟩ := H'
  rcases so_last (fun k => decide (A (sq k) = nI a)) n with hl | ⟨k, k1, k2, k3⟩
  · have hl' : ∀ k, k < n → ¬ A (sq k) = nI a := fun k hk => of_decide_eq_false (hl k hk)
    refine ⟨-1, w, v, fun post hp => so_xnp hp4 hn hh hpn hhd (Or.inl ⟨fun k hk => ?_, rfl⟩) hp, fun post hp => so_ysn hE H Hw (Or.inl ⟨hl', rfl⟩) hp, Or.inl ⟨rfl, rfl, rfl⟩, ?_⟩
    · rw [(g1 k hk).2.2.1]
      exact hl' k hk
    · rcases Hw with ⟨e1, e2, _⟩ | ⟨i, e1, e2, e3, _⟩
      · exact Or.inl ⟨e1, e2⟩
      · exact Or.inr ⟨i, e1, e2, e3⟩
  · have k2' : A (sq k) = nI a := of_decide_eq_true k2
    have k3' : ∀ j, k < j → j < n → ¬ A (sq j) = nI a := fun j h1 h2 => of_decide_eq_false (k3 j h1 h2)
    obtain ⟨f1, f2, f3, f4⟩ := g1 k k1
    refine ⟨nI (p * 4 + (h + k) % 4), nI (sq k), Wt (sq k), fun post hp => so_xnp hp4 hn hh hpn hhd (Or.inr ⟨k, k1, by rw [f3]; exact k2', fun j h1 h2 => ?_, rfl⟩) hp, fun post hp => so_ysn hE H Hw (Or.inr ⟨k, k1, k2', k3', rfl⟩) hp, Or.inr ⟨_, by omega, rfl, f2, f4⟩, Or.inr ⟨sq k, f1, rfl, rfl⟩⟩
    rw [(g1 j h2).2.2.1]
    exact k3' j h1 h2
end
end
section
/-! ===== each change keeps the invariant ===== -/
section
variable {nP nW nD nL E G : Nat} {ra ac : Int32} {cd cx cy ln rg ct bE bA bV hea pn wd wr K O A Wt R S Pl nd ar rW rV md li lt : Nat → Int32}
variable {kk oo aa ww sv mm : Int32} {p a : Nat}
theorem so_Wr_c {K' A' Wt' md' : Nat → Int32} {w v : Int32} (hK : ∀ e, e < E → K' e = K e) (hA : ∀ e, e < E → A' e = A e) (hW : ∀ e, e < E → Wt' e = Wt e) (hm : ∀ e, e < E → md' e = md e) (h : so_Wr E K A Wt md a w v) : so_Wr E K' A' Wt' md' a w v := by
  have hk : ∀ e, e < E → so_W K' e = so_W K e := by
    intro e he
    unfold so_W
    rw [hK e he]
  rcases h with ⟨h1, h2, h3⟩ | ⟨i, h1, h2, h3, h4, h5, h6, h7⟩
  · refine Or.inl ⟨h1, h2, fun e he hw ha => ?_⟩
    rw [hm e he]
    rw [hk e he] at hw
    rw [hA e he] at ha
    exact h3 e he hw ha
  · refine Or.inr ⟨i, h1, h2, by rw [hW i h1]; exact h3, by rw [hk i h1]; exact h4, by rw [hA i h1]; exact h5, by rw [hm i h1]; exact h6, fun e he hne hw ha => ?_⟩
    rw [hm e he, hm i h1]
    rw [hk e he] at hw
    rw [hA e he] at ha
    exact h7 e he hne hw ha
theorem so_ue {f : Nat → Int32} {x : Int32} : ∀ e, e < E → upd f E x e = f e := fun e he => pk_un (by omega)
theorem so_Bf_a (hk : ¬ kk = 4) (h : so_Bf nP nD E K O A Wt md bE bA bV hea pn) : so_Bf nP nD (E + 1) (upd K E kk) (upd O E oo) (upd A E aa) (upd Wt E ww) (upd md E mm) bE bA bV hea pn := by
  intro p hp
  obtain ⟨n, h0, s, h1, h2, h3, h4, H⟩ := h p hp
  refine ⟨n, h0, s, h1, h2, h3, h4, so_Bq_e ?_ (so_Bq_c so_ue so_ue (fun e he => so_pd_u (by omega)) (fun _ _ => rfl) (fun _ _ => rfl) (fun _ _ => rfl) H)⟩
  simp [so_pd, pk_us, hk]
theorem so_Bf_n {n h : Nat} {s : Nat → Nat} (hP : nP ≤ 4) (hD : nD ≤ 4) (hp : p < nP) (hn : n < nD) (hh : h < 4) (hhe : hea p = nI h) (Hq : so_Bq E K O A Wt md bE bA bV p n h s) (H : so_Bf nP nD E K O A Wt md bE bA bV hea pn) :
    so_Bf nP nD (E + 1) (upd K E 4) (upd O E (nI p)) (upd A E aa) (upd Wt E ww) (upd md E (-1)) (upd bE (p * 4 + (h + n) % 4) (nI E)) (upd bA (p * 4 + (h + n) % 4) aa) (upd bV (p * 4 + (h + n) % 4) ww) hea (upd pn p (nI (n + 1))) := by
  intro p' hp'
  by_cases q : p' = p
  · subst q
    refine ⟨n + 1, h, fun k => if k = n then E else s k, by omega, hh, pk_us, hhe, ?_⟩
    have Hc := so_Bq_c (K' := upd K E 4) (O' := upd O E (nI p')) (A' := upd A E aa) (Wt' := upd Wt E ww) (md' := upd md E (-1)) so_ue so_ue (fun e he => so_pd_u (by omega)) (fun _ _ => rfl) (fun _ _ => rfl) (fun _ _ => rfl) Hq
    have := so_Bq_n (by omega) (by simp [so_pd, pk_us, so_n1]) Hc
    rw [pk_us, pk_us] at this
    exact this
  · obtain ⟨n', h0, s', h1, h2, h3, h4, H'⟩ := H p' hp'
    refine ⟨n', h0, s', h1, h2, by rw [pk_un q]; exact h3, h4, so_Bq_e ?_ (so_Bq_c so_ue so_ue (fun e he => so_pd_u (by omega)) (fun x hx => pk_un (by omega)) (fun x hx => pk_un (by omega)) (fun x hx => pk_un (by omega)) H')⟩
    have : ¬ nI p = nI p' := fun z => q (so_inj (by omega) (by omega) z).symm
    simp [so_pd, pk_us, this]
theorem so_Pr_ct {c : Nat} (hc : c ≤ 16) (h : so_Pr nP nW cd cx cy ln ct) : so_Pr nP nW cd cx cy ln (upd ct p (nI c)) := by
  intro p' hp'
  obtain ⟨h1, h2⟩ := h p' hp'
  refine ⟨h1, ?_⟩
  by_cases q : p' = p
  · subst q
    exact ⟨c, hc, pk_us⟩
  · rw [pk_un q]
    exact h2
theorem so_I_ct {c : Nat} (hc : c ≤ 16) (h : so_I nP nW nD nL E G ra cd cx cy ln ct bE bA bV hea pn wd wr K O A Wt S Pl md) : so_I nP nW nD nL E G ra cd cx cy ln (upd ct p (nI c)) bE bA bV hea pn wd wr K O A Wt S Pl md := by
  obtain ⟨h1, h2, h3, h4⟩ := h
  exact ⟨h1, h2, so_Pr_ct hc h3, h4⟩
theorem so_I_3 (hL : E < nL) (ha : a < nW) (hs : sv = -1 ∨ ∃ s, s < E ∧ sv = nI s) (h : so_I nP nW nD nL E G ra cd cx cy ln ct bE bA bV hea pn wd wr K O A Wt S Pl md) : so_I nP nW nD nL (E + 1) (G + 1) ra cd cx cy ln ct bE bA bV hea pn wd wr (upd K E 3) (upd O E oo) (upd A E (nI a)) (upd Wt E ww) (upd S E sv) (upd Pl E (nI G)) (upd md E (nI G)) := by
  obtain ⟨⟨s1, s2, s3, s4, s5, s6, s7, s8, s9⟩, h2, h3, h4, h5, h6, h7, h8⟩ := h
  refine ⟨⟨s1, s2, s3, s4, s5, s6, s7, by omega, by omega⟩, h2, h3, so_Ev_a h4 (Or.inl rfl) (fun _ => ⟨a, ha, rfl⟩) hs, so_Md_1 (by omega) h5, so_Pm_x (E + 1) (by omega) (by omega) (by omega) (fun z => by omega) (fun e h1 h2 => by omega) h6, fun b hb => so_Wr_a (fun z => ?_) (h7 b hb), so_Bf_a (by decide) h8⟩
  rcases z with z | z
  · exact absurd z (by decide)
  · exact absurd z (by decide)
theorem so_I_5 (hL : E < nL) (h : so_I nP nW nD nL E G ra cd cx cy ln ct bE bA bV hea pn wd wr K O A Wt S Pl md) : so_I nP nW nD nL (E + 1) G ra cd cx cy ln ct bE bA bV hea pn wd wr (upd K E 5) (upd O E oo) (upd A E (-1)) (upd Wt E ww) (upd S E (-1)) (upd Pl E (-1)) (upd md E (-1)) := by
  obtain ⟨⟨s1, s2, s3, s4, s5, s6, s7, s8, s9⟩, h2, h3, h4, h5, h6, h7, h8⟩ := h
  exact ⟨⟨s1, s2, s3, s4, s5, s6, s7, by omega, by omega⟩, h2, h3, so_Ev_a h4 (Or.inr (Or.inr (Or.inl rfl))) (fun z => absurd rfl z) (Or.inl rfl), so_Md_0 h5, so_Pm_0 h6, fun b hb => so_Wr_a (fun _ _ => so_n1) (h7 b hb), so_Bf_a (by decide) h8⟩
theorem so_I_4 {n h : Nat} {s : Nat → Nat} (hL : E < nL) (ha : a < nW) (hp : p < nP) (hn : n < nD) (hh : h < 4) (hhe : hea p = nI h) (Hq : so_Bq E K O A Wt md bE bA bV p n h s) (H : so_I nP nW nD nL E G ra cd cx cy ln ct bE bA bV hea pn wd wr K O A Wt S Pl md) :
    so_I nP nW nD nL (E + 1) G ra cd cx cy ln ct (upd bE (p * 4 + (h + n) % 4) (nI E)) (upd bA (p * 4 + (h + n) % 4) (nI a)) (upd bV (p * 4 + (h + n) % 4) ww) hea (upd pn p (nI (n + 1))) wd wr (upd K E 4) (upd O E (nI p)) (upd A E (nI a)) (upd Wt E ww) (upd S E (-1)) (upd Pl E (-1)) (upd md E (-1)) := by
  obtain ⟨⟨s1, s2, s3, s4, s5, s6, s7, s8, s9⟩, h2, h3, h4, h5, h6, h7, h8⟩ := H
  exact ⟨⟨s1, s2, s3, s4, s5, s6, s7, by omega, by omega⟩, h2, h3, so_Ev_a h4 (Or.inr (Or.inl rfl)) (fun _ => ⟨a, ha, rfl⟩) (Or.inl rfl), so_Md_0 h5, so_Pm_0 h6, fun b hb => so_Wr_a (fun _ _ => so_n1) (h7 b hb), so_Bf_n s2 s6 hp hn hh hhe Hq h8⟩
theorem so_I_6 (hL : E < nL) (ha : a < nW) (h : so_I nP nW nD nL E G ra cd cx cy ln ct bE bA bV hea pn wd wr K O A Wt S Pl md) : so_I nP nW nD nL (E + 1) (G + 1) ra cd cx cy ln ct bE bA bV hea pn (upd wd a ww) (upd wr a (nI E)) (upd K E 6) (upd O E oo) (upd A E (nI a)) (upd Wt E ww) (upd S E (wr a)) (upd Pl E (nI G)) (upd md E (nI G)) := by
  obtain ⟨⟨s1, s2, s3, s4, s5, s6, s7, s8, s9⟩, h2, h3, h4, h5, h6, h7, h8⟩ := h
  have hs : wr a = -1 ∨ ∃ s, s < E ∧ wr a = nI s := by
    rcases h7 a ha with ⟨g1, _⟩ | ⟨i, g1, g2, _⟩
    · exact Or.inl g1
    · exact Or.inr ⟨i, g1, g2⟩
  refine ⟨⟨s1, s2, s3, s4, s5, s6, s7, by omega, by omega⟩, h2, h3, so_Ev_a h4 (Or.inr (Or.inr (Or.inr rfl))) (fun _ => ⟨a, ha, rfl⟩) hs, so_Md_1 (by omega) h5, so_Pm_x (E + 1) (by omega) (by omega) (by omega) (fun z => by omega) (fun e h1 h2 => by omega) h6, fun b hb => ?_, so_Bf_a (by decide) h8⟩
  by_cases q : b = a
  · subst q
    rw [pk_us, pk_us]
    exact so_Wr_x (by omega) h5
  · rw [pk_un q, pk_un q]
    exact so_Wr_a (fun _ z => absurd (so_inj (by omega) (by omega) z).symm q) (h7 b hb)
theorem so_I_d {n h : Nat} {s : Nat → Nat} (hp : p < nP) (hh : h < 4) (hpn : pn p = nI (n + 1)) (hhe : hea p = nI h) (hn : n + 1 ≤ nD) (ha : a < nW) (hA : A (s 0) = nI a) (Hq : so_Bq E K O A Wt md bE bA bV p (n + 1) h s) (H : so_I nP nW nD nL E G ra cd cx cy ln ct bE bA bV hea pn wd wr K O A Wt S Pl md) :
    so_I nP nW nD nL E (G + 1) ra cd cx cy ln ct bE bA bV (upd hea p (nI ((h + 1) % 4))) (upd pn p (nI n)) (upd wd a (Wt (s 0))) (upd wr a (nI (s 0))) K O A Wt S (upd Pl (s 0) (nI G)) (upd md (s 0) (nI G)) := by
  obtain ⟨⟨s1, s2, s3, s4, s5, s6, s7, s8, s9⟩, h2, h3, h4, h5, h6, h7, h8⟩ := H
  obtain ⟨g1, g2, g3, g4⟩ := Hq
  have e0 : s 0 < E := (g1 0 (by omega)).1
  have hpd := g4 0 (by omega)
  have hpd' : K (s 0) = 4 ∧ O (s 0) = nI p ∧ md (s 0) < 0 := by
    simpa [so_pd] using hpd
  have hmd := so_Md_d (by omega) e0 hpd'.2.2 h5
  have hW : so_W K (s 0) = true := by simp [so_W, hpd'.1]
  refine ⟨⟨s1, s2, s3, s4, s5, s6, s7, s8, ?_⟩, h2, h3, h4, hmd, so_Pm_x E (Nat.le_refl _) (by omega) e0 (fun _ => so_Md_p (by omega) e0 hpd'.2.2 h5) (fun e h1 h2 => by omega) h6, fun b hb => ?_, fun p' hp' => ?_⟩
  · have := hmd.1
    have := so_cnt_le (f := so_mk (upd md (s 0) (nI G))) E 0
    omega
  · by_cases q : b = a
    · subst q
      rw [pk_us, pk_us]
      exact so_Wr_d (by omega) h5 e0 hW hA
    · rw [pk_un q, pk_un q]
      refine so_Wr_o ?_ (h7 b hb)
      rw [hA]
      exact fun z => q (so_inj (by omega) (by omega) z).symm
  · by_cases q : p' = p
    · subst q
      rw [pk_us, pk_us]
      exact ⟨n, (h + 1) % 4, _, by omega, Nat.mod_lt _ (by decide), rfl, rfl, so_Bq_d (by omega) ⟨g1, g2, g3, g4⟩⟩
    · rw [pk_un q, pk_un q]
      obtain ⟨n', h0, s', j1, j2, j3, j4, H'⟩ := h8 p' hp'
      exact ⟨n', h0, s', j1, j2, j3, j4, so_Bq_c (fun _ _ => rfl) (fun _ _ => rfl) (fun e _ => so_pd_o (by omega) (by omega) q hpd e) (fun _ _ => rfl) (fun _ _ => rfl) (fun _ _ => rfl) H'⟩
end
end
section
/-! ===== the component's instructions ===== -/
section
variable {nP nW nD nL E G : Nat} {ra ac : Int32} {cd cx cy ln rg ct bE bA bV hea pn wd wr K O A Wt R S Pl nd ar rW rV md li lt : Nat → Int32}
variable {p a r c x : Nat}
theorem so_xne {post : Int32 → SX → Prop} {p0 k1 a0 v0 : Int32} (hE : E < 24) (h : post (nI E) (nI nP, nI nW, nI nD, nI nL, nI (E + 1), nI G, ra, ac, cd, cx, cy, ln, rg, ct, bE, bA, bV, hea, pn, wd, wr, upd K E k1, upd O E p0, upd A E a0, upd Wt E v0, upd R E 0, upd S E (-1), upd Pl E (-1), nd, ar, rW, rV)) : wpX_newEvent post (nI nP, nI nW, nI nD, nI nL, nI E, nI G, ra, ac, cd, cx, cy, ln, rg, ct, bE, bA, bV, hea, pn, wd, wr, K, O, A, Wt, R, S, Pl, nd, ar, rW, rV) p0 k1 a0 v0 := by
  have cE := so_cl (e := E) (by omega)
  have hv := vp_in_nI hE (by decide)
  unfold wpX_newEvent
  dsimp only
  rw [cE]
  exact ⟨hv, nm_e ⟨hv, nm_e ⟨hv, nm_e ⟨hv, nm_e ⟨hv, nm_e ⟨hv, nm_e ⟨hv, nm_e (nm_r (nI_1 E) h)⟩⟩⟩⟩⟩⟩⟩
theorem so_xgp {post : SX → Prop} {e : Nat} (he : e < 24) (h : post (nI nP, nI nW, nI nD, nI nL, nI E, nI (G + 1), ra, ac, cd, cx, cy, ln, rg, ct, bE, bA, bV, hea, pn, wd, wr, K, O, A, Wt, R, S, upd Pl e (nI G), nd, ar, rW, rV)) : wpX_givePlace post (nI nP, nI nW, nI nD, nI nL, nI E, nI G, ra, ac, cd, cx, cy, ln, rg, ct, bE, bA, bV, hea, pn, wd, wr, K, O, A, Wt, R, S, Pl, nd, ar, rW, rV) (nI e) := by
  have c := so_cl (e := e) (by omega)
  have hv := vp_in_nI he (by decide)
  unfold wpX_givePlace
  dsimp only
  rw [c]
  exact ⟨hv, nm_e (nm_r (nI_1 G) h)⟩
theorem so_xld {post : SX → Prop} {sl s z : Int32} (hE : E < 24) (hr : r < 16) (ha : a < 8)
    (hsl : ∀ post : Int32 → Prop, post sl → wpX_newestPending post (nI nP, nI nW, nI nD, nI nL, nI (E + 1), nI G, ra, ac, cd, cx, cy, ln, rg, ct, bE, bA, bV, hea, pn, wd, wr, upd K E 3, upd O E (nI p), upd A E (nI a), upd Wt E 0, upd R E 0, upd S E (-1), upd Pl E (-1), nd, ar, rW, rV) (nI p) (nI a))
    (hz : (sl = -1 ∧ s = wr a ∧ z = wd a) ∨ ∃ t, t < 16 ∧ sl = nI t ∧ bE t = s ∧ bV t = z)
    (h : post (nI nP, nI nW, nI nD, nI nL, nI (E + 1), nI (G + 1), ra, ac, cd, cx, cy, ln, upd rg r z, ct, bE, bA, bV, hea, pn, wd, wr, upd K E 3, upd O E (nI p), upd A E (nI a), upd Wt E 0, upd R E z, upd S E s, upd Pl E (nI G), nd, ar, rW, rV)) : wpX_executeLoad post (nI nP, nI nW, nI nD, nI nL, nI E, nI G, ra, ac, cd, cx, cy, ln, rg, ct, bE, bA, bV, hea, pn, wd, wr, K, O, A, Wt, R, S, Pl, nd, ar, rW, rV) (nI p) (nI r) (nI a) := by
  have cE := so_cl (e := E) (by omega)
  have ca := so_cl (e := a) (by omega)
  have cr := so_cl (e := r) (by omega)
  have hv := vp_in_nI hE (by decide)
  have hva := vp_in_nI ha (by decide)
  have hvr := vp_in_nI hr (by decide)
  unfold wpX_executeLoad
  dsimp only
  refine so_xne hE ?_
  dsimp only
  rw [cE, ca]
  refine hsl _ ?_
  rcases hz with ⟨rfl, rfl, rfl⟩ | ⟨t, ht, rfl, rfl, rfl⟩
  · refine br_t so_n1 ⟨hva, hv, nm_e ⟨hva, hv, nm_e ?_⟩⟩
    unfold wX_executeLoad_80
    refine so_xgp hE ?_
    dsimp only
    rw [cE, cr]
    refine ⟨hv, hvr, nm_e ?_⟩
    simp only [so_uu, pk_us]
    exact h
  · have ct' := so_cl (e := t) (by omega)
    have hvt := vp_in_nI ht (by decide)
    rw [ct']
    refine br_f (so_nlt (by omega)) ⟨hvt, hv, nm_e ⟨hvt, hv, nm_e ?_⟩⟩
    unfold wX_executeLoad_80
    refine so_xgp hE ?_
    dsimp only
    rw [cE, cr]
    refine ⟨hv, hvr, nm_e ?_⟩
    simp only [so_uu, pk_us]
    exact h
theorem so_xst {post : SX → Prop} {n h : Nat} (hE : E < 24) (hr : r < 16) (hp : p < 4) (hn : n < 4) (hh : h < 4) (hpn : pn p = nI n) (hhe : hea p = nI h)
    (H : post (nI nP, nI nW, nI nD, nI nL, nI (E + 1), nI G, ra, ac, cd, cx, cy, ln, rg, ct, upd bE (p * 4 + (h + n) % 4) (nI E), upd bA (p * 4 + (h + n) % 4) (nI a), upd bV (p * 4 + (h + n) % 4) (rg r), hea, upd pn p (nI (n + 1)), wd, wr, upd K E 4, upd O E (nI p), upd A E (nI a), upd Wt E (rg r), upd R E 0, upd S E (-1), upd Pl E (-1), nd, ar, rW, rV)) : wpX_executeStore post (nI nP, nI nW, nI nD, nI nL, nI E, nI G, ra, ac, cd, cx, cy, ln, rg, ct, bE, bA, bV, hea, pn, wd, wr, K, O, A, Wt, R, S, Pl, nd, ar, rW, rV) (nI p) (nI r) (nI a) := by
  have cp := so_cl (e := p) (by omega)
  have cr := so_cl (e := r) (by omega)
  have cs := so_cl (e := p * 4 + (h + n) % 4) (by omega)
  have hvp := vp_in_nI hp (by decide)
  have hvr := vp_in_nI hr (by decide)
  have hvs := vp_in_nI (n := p * 4 + (h + n) % 4) (N := 16) (by omega) (by decide)
  unfold wpX_executeStore
  dsimp only
  rw [cr]
  refine ⟨hvr, so_xne hE ?_⟩
  dsimp only
  rw [cp, hhe, hpn, nI_add, so_m4 (by omega), so_i4]
  refine ⟨hvp, hvp, nm_e ?_⟩
  rw [cs]
  refine ⟨hvs, nm_e ⟨hvs, nm_e ⟨hvr, hvs, nm_e ⟨hvp, hvp, nm_r (e' := upd pn p (nI (n + 1))) ?_ H⟩⟩⟩⟩
  rw [nI_1]
theorem so_xxc {post : SX → Prop} (hE : E < 24) (hr : r < 16) (ha : a < 8)
    (h : post (nI nP, nI nW, nI nD, nI nL, nI (E + 1), nI (G + 1), ra, ac, cd, cx, cy, ln, upd rg r (wd a), ct, bE, bA, bV, hea, pn, upd wd a (rg r), upd wr a (nI E), upd K E 6, upd O E (nI p), upd A E (nI a), upd Wt E (rg r), upd R E (wd a), upd S E (wr a), upd Pl E (nI G), nd, ar, rW, rV)) : wpX_executeExchange post (nI nP, nI nW, nI nD, nI nL, nI E, nI G, ra, ac, cd, cx, cy, ln, rg, ct, bE, bA, bV, hea, pn, wd, wr, K, O, A, Wt, R, S, Pl, nd, ar, rW, rV) (nI p) (nI r) (nI a) := by
  have cE := so_cl (e := E) (by omega)
  have ca := so_cl (e := a) (by omega)
  have cr := so_cl (e := r) (by omega)
  have hv := vp_in_nI hE (by decide)
  have hva := vp_in_nI ha (by decide)
  have hvr := vp_in_nI hr (by decide)
  unfold wpX_executeExchange
  dsimp only
  rw [cr]
  refine ⟨hvr, so_xne hE ?_⟩
  dsimp only
  rw [cE, ca]
  refine ⟨hva, hv, nm_e ⟨hva, hv, nm_e (so_xgp hE ?_)⟩⟩
  dsimp only
  refine ⟨hvr, hva, nm_e ⟨hva, nm_e ⟨hv, hvr, nm_e ?_⟩⟩⟩
  simp only [so_uu, pk_us]
  exact h
theorem so_x43 {x : Nat} (hx : x < 4) (p : Nat) : nI p * 4 + (nI x &&& 3) = nI (p * 4 + x) := by
  rw [so_m4 (by omega), Nat.mod_eq_of_lt hx, so_i4]
theorem so_xe0 {post : SX → Prop} {y : Int32} (hp : p < 4) (hx : x < 4) (hct : ct p = nI c) (h : post (nI nP, nI nW, nI nD, nI nL, nI E, nI G, ra, ac, cd, cx, cy, ln, upd rg (p * 4 + x) y, upd ct p (nI (c + 1)), bE, bA, bV, hea, pn, wd, wr, K, O, A, Wt, R, S, Pl, nd, ar, rW, rV)) : wpX_execute post (nI nP, nI nW, nI nD, nI nL, nI E, nI G, ra, ac, cd, cx, cy, ln, rg, ct, bE, bA, bV, hea, pn, wd, wr, K, O, A, Wt, R, S, Pl, nd, ar, rW, rV) (nI p) 0 (nI x) y := by
  have cp := so_cl (e := p) (by omega)
  have cr := so_cl (e := p * 4 + x) (by omega)
  have hvp := vp_in_nI hp (by decide)
  have hvr := vp_in_nI (n := p * 4 + x) (N := 16) (by omega) (by decide)
  unfold wpX_execute
  dsimp only
  rw [cp, hct, so_x43 hx, nI_1]
  refine nm_e ⟨hvp, nm_e ?_⟩
  rw [cr]
  exact br_f (by decide) (br_f (by decide) (br_t rfl ⟨hvr, nm_e ⟨hvp, nm_e h⟩⟩))
theorem so_xe1 {post : SX → Prop} {y : Nat} (hp : p < 4) (hx : x < 4) (hy : y < 4) (hct : ct p = nI c) (h : post (nI nP, nI nW, nI nD, nI nL, nI E, nI G, ra, ac, cd, cx, cy, ln, upd rg (p * 4 + x) (rg (p * 4 + x) + rg (p * 4 + y)), upd ct p (nI (c + 1)), bE, bA, bV, hea, pn, wd, wr, K, O, A, Wt, R, S, Pl, nd, ar, rW, rV)) : wpX_execute post (nI nP, nI nW, nI nD, nI nL, nI E, nI G, ra, ac, cd, cx, cy, ln, rg, ct, bE, bA, bV, hea, pn, wd, wr, K, O, A, Wt, R, S, Pl, nd, ar, rW, rV) (nI p) 1 (nI x) (nI y) := by
  have cp := so_cl (e := p) (by omega)
  have cr := so_cl (e := p * 4 + x) (by omega)
  have cy' := so_cl (e := p * 4 + y) (by omega)
  have hvp := vp_in_nI hp (by decide)
  have hvr := vp_in_nI (n := p * 4 + x) (N := 16) (by omega) (by decide)
  have hvy := vp_in_nI (n := p * 4 + y) (N := 16) (by omega) (by decide)
  unfold wpX_execute
  dsimp only
  rw [cp, hct, so_x43 hx, so_i4, cy', nI_1]
  refine nm_e ⟨hvp, nm_e ?_⟩
  rw [cr]
  exact br_f (by decide) (br_f (by decide) (br_f (by decide) (br_t rfl ⟨hvr, hvy, hvr, nm_e ⟨hvp, nm_e h⟩⟩)))
theorem so_xe2 {post : SX → Prop} {y : Nat} (hp : p < 4) (hx : x < 4) (hct : ct p = nI c) (h : post (nI nP, nI nW, nI nD, nI nL, nI E, nI G, ra, ac, cd, cx, cy, ln, rg, upd ct p (nI (if rg (p * 4 + x) = 0 then y else c + 1)), bE, bA, bV, hea, pn, wd, wr, K, O, A, Wt, R, S, Pl, nd, ar, rW, rV)) : wpX_execute post (nI nP, nI nW, nI nD, nI nL, nI E, nI G, ra, ac, cd, cx, cy, ln, rg, ct, bE, bA, bV, hea, pn, wd, wr, K, O, A, Wt, R, S, Pl, nd, ar, rW, rV) (nI p) 2 (nI x) (nI y) := by
  have cp := so_cl (e := p) (by omega)
  have cr := so_cl (e := p * 4 + x) (by omega)
  have hvp := vp_in_nI hp (by decide)
  have hvr := vp_in_nI (n := p * 4 + x) (N := 16) (by omega) (by decide)
  unfold wpX_execute
  dsimp only
  rw [cp, hct, so_x43 hx, nI_1]
  refine nm_e ⟨hvp, nm_e ?_⟩
  rw [cr]
  refine br_f (by decide) (br_f (by decide) (br_f (by decide) (br_f (by decide) (br_t rfl ⟨hvr, br_c (fun q => ⟨hvp, nm_e ?_⟩) (fun q => ⟨hvp, nm_e ?_⟩)⟩))))
  · rw [if_pos q] at h
    exact h
  · rw [if_neg q] at h
    exact h
theorem so_xe3 {post : SX → Prop} {sl s z : Int32} (hE : E < 24) (ha : a < 8) (hp : p < 4) (hx : x < 4) (hct : ct p = nI c)
    (hsl : ∀ post : Int32 → Prop, post sl → wpX_newestPending post (nI nP, nI nW, nI nD, nI nL, nI (E + 1), nI G, ra, ac, cd, cx, cy, ln, rg, ct, bE, bA, bV, hea, pn, wd, wr, upd K E 3, upd O E (nI p), upd A E (nI a), upd Wt E 0, upd R E 0, upd S E (-1), upd Pl E (-1), nd, ar, rW, rV) (nI p) (nI a))
    (hz : (sl = -1 ∧ s = wr a ∧ z = wd a) ∨ ∃ t, t < 16 ∧ sl = nI t ∧ bE t = s ∧ bV t = z)
    (h : post (nI nP, nI nW, nI nD, nI nL, nI (E + 1), nI (G + 1), ra, ac, cd, cx, cy, ln, upd rg (p * 4 + x) z, upd ct p (nI (c + 1)), bE, bA, bV, hea, pn, wd, wr, upd K E 3, upd O E (nI p), upd A E (nI a), upd Wt E 0, upd R E z, upd S E s, upd Pl E (nI G), nd, ar, rW, rV)) : wpX_execute post (nI nP, nI nW, nI nD, nI nL, nI E, nI G, ra, ac, cd, cx, cy, ln, rg, ct, bE, bA, bV, hea, pn, wd, wr, K, O, A, Wt, R, S, Pl, nd, ar, rW, rV) (nI p) 3 (nI x) (nI a) := by
  have cp := so_cl (e := p) (by omega)
  have hvp := vp_in_nI hp (by decide)
  unfold wpX_execute
  dsimp only
  rw [cp, hct, so_x43 hx, nI_1]
  refine nm_e ⟨hvp, nm_e (br_f (by decide) (br_f (by decide) (br_f (by decide) (br_f (by decide) (br_f (by decide) (br_t rfl (so_xld hE (by omega) ha hsl hz ?_)))))))⟩
  dsimp only
  exact ⟨hvp, nm_e h⟩
theorem so_xe4 {post : SX → Prop} {n h : Nat} (hE : E < 24) (hp : p < 4) (hx : x < 4) (hct : ct p = nI c) (hn : n < 4) (hh : h < 4) (hpn : pn p = nI n) (hhe : hea p = nI h)
    (H : post (nI nP, nI nW, nI nD, nI nL, nI (E + 1), nI G, ra, ac, cd, cx, cy, ln, rg, upd ct p (nI (c + 1)), upd bE (p * 4 + (h + n) % 4) (nI E), upd bA (p * 4 + (h + n) % 4) (nI a), upd bV (p * 4 + (h + n) % 4) (rg (p * 4 + x)), hea, upd pn p (nI (n + 1)), wd, wr, upd K E 4, upd O E (nI p), upd A E (nI a), upd Wt E (rg (p * 4 + x)), upd R E 0, upd S E (-1), upd Pl E (-1), nd, ar, rW, rV)) : wpX_execute post (nI nP, nI nW, nI nD, nI nL, nI E, nI G, ra, ac, cd, cx, cy, ln, rg, ct, bE, bA, bV, hea, pn, wd, wr, K, O, A, Wt, R, S, Pl, nd, ar, rW, rV) (nI p) 4 (nI x) (nI a) := by
  have cp := so_cl (e := p) (by omega)
  have hvp := vp_in_nI hp (by decide)
  unfold wpX_execute
  dsimp only
  rw [cp, hct, so_x43 hx, nI_1]
  refine nm_e ⟨hvp, nm_e (br_f (by decide) (br_f (by decide) (br_f (by decide) (br_f (by decide) (br_f (by decide) (br_f (by decide) (br_t rfl (so_xst hE (by omega) hp hn hh hpn hhe ?_))))))))⟩
  dsimp only
  exact ⟨hvp, nm_e H⟩
theorem so_xe5 {post : SX → Prop} {x y : Int32} (hE : E < 24) (hp : p < 4) (hct : ct p = nI c)
    (h : post (nI nP, nI nW, nI nD, nI nL, nI (E + 1), nI G, ra, ac, cd, cx, cy, ln, rg, upd ct p (nI (c + 1)), bE, bA, bV, hea, pn, wd, wr, upd K E 5, upd O E (nI p), upd A E (-1), upd Wt E 0, upd R E 0, upd S E (-1), upd Pl E (-1), nd, ar, rW, rV)) : wpX_execute post (nI nP, nI nW, nI nD, nI nL, nI E, nI G, ra, ac, cd, cx, cy, ln, rg, ct, bE, bA, bV, hea, pn, wd, wr, K, O, A, Wt, R, S, Pl, nd, ar, rW, rV) (nI p) 5 x y := by
  have cp := so_cl (e := p) (by omega)
  have hvp := vp_in_nI hp (by decide)
  unfold wpX_execute
  dsimp only
  rw [cp, hct, nI_1]
  refine nm_e ⟨hvp, nm_e (br_f (by decide) (br_f (by decide) (br_f (by decide) (br_f (by decide) (br_f (by decide) (br_f (by decide) (br_f (by decide) (br_t rfl (so_xne hE ?_)))))))))⟩
  dsimp only
  exact ⟨hvp, nm_e h⟩
theorem so_xe6 {post : SX → Prop} (hE : E < 24) (ha : a < 8) (hp : p < 4) (hx : x < 4) (hct : ct p = nI c)
    (h : post (nI nP, nI nW, nI nD, nI nL, nI (E + 1), nI (G + 1), ra, ac, cd, cx, cy, ln, upd rg (p * 4 + x) (wd a), upd ct p (nI (c + 1)), bE, bA, bV, hea, pn, upd wd a (rg (p * 4 + x)), upd wr a (nI E), upd K E 6, upd O E (nI p), upd A E (nI a), upd Wt E (rg (p * 4 + x)), upd R E (wd a), upd S E (wr a), upd Pl E (nI G), nd, ar, rW, rV)) : wpX_execute post (nI nP, nI nW, nI nD, nI nL, nI E, nI G, ra, ac, cd, cx, cy, ln, rg, ct, bE, bA, bV, hea, pn, wd, wr, K, O, A, Wt, R, S, Pl, nd, ar, rW, rV) (nI p) 6 (nI x) (nI a) := by
  have cp := so_cl (e := p) (by omega)
  have hvp := vp_in_nI hp (by decide)
  unfold wpX_execute
  dsimp only
  rw [cp, hct, so_x43 hx, nI_1]
  refine nm_e ⟨hvp, nm_e (br_f (by decide) (br_t (by decide) (so_xxc hE (by omega) ha ?_)))⟩
  dsimp only
  exact ⟨hvp, nm_e h⟩
end
end
section
/-! ===== the reference's instructions ===== -/
section
variable {nP nW nD nL E G : Nat} {ra ac : Int32} {cd cx cy ln rg ct bE bA bV hea pn wd wr K O A Wt R S Pl nd ar rW rV md li lt : Nat → Int32}
variable {p a r c x : Nat}
theorem so_y123 {post : SY → Prop} {s z : Int32} (hE : E < 24) (hr : r < 16)
    (hs : ∀ post : Int32 → Prop, post s → wpY_seen post (nI nP, nI nW, nI nD, nI nL, nI E, ra, cd, cx, cy, ln, rg, ct, K, O, A, Wt, R, S, Pl, md, li, lt) (nI p) (nI a)) (hG : so_cnt (so_mk md) E 0 = G) (hz : (s = -1 ∧ z = 0) ∨ ∃ i, i < E ∧ s = nI i ∧ z = Wt i)
    (h : post (nI nP, nI nW, nI nD, nI nL, nI (E + 1), ra, cd, cx, cy, ln, upd rg r z, ct, K, O, A, Wt, upd R E z, upd S E s, upd Pl E (nI G), upd md E (nI G), li, lt)) : wY_makeEvent_123 post (nI p) (nI a) (nI E) (nI r) (nI nP) (nI nW) (nI nD) (nI nL) (nI E) ra cd cx cy ln rg ct K O A Wt R S Pl md li lt := by
  have cE := so_cl (e := E) (by omega)
  have cr := so_cl (e := r) (by omega)
  have hv := vp_in_nI hE (by decide)
  have hvr := vp_in_nI hr (by decide)
  have key : wY_makeEvent_169 post (nI E) (nI r) (nI G) z (nI E) (nI nP) (nI nW) (nI nD) (nI nL) (nI E) ra cd cx cy ln rg ct K O A Wt R (upd S E s) Pl md li lt := by
    unfold wY_makeEvent_169
    rw [cE, cr]
    refine ⟨hv, nm_e ⟨hv, hvr, nm_e ⟨hv, nm_e ⟨hv, nm_e (nm_r (nI_1 E) ?_)⟩⟩⟩⟩
    rw [pk_us]
    exact h
  unfold wY_makeEvent_123
  rw [cE]
  refine hs _ (so_ygv (by omega) ?_)
  rw [hG]
  refine ⟨hv, nm_e ?_⟩
  rcases hz with ⟨rfl, rfl⟩ | ⟨i, hi, rfl, rfl⟩
  · exact br_f so_n1' key
  · rw [so_cl (e := i) (by omega)]
    exact br_t (so_nle (by omega)) ⟨vp_in_nI (by omega) (by decide), key⟩
theorem so_ym3 {post : SY → Prop} (hE : E < 24)
    (h : wY_makeEvent_123 post (nI p) (nI a) (nI E) (nI (p * 4 + x)) (nI nP) (nI nW) (nI nD) (nI nL) (nI E) ra cd cx cy ln rg ct (upd K E 3) (upd O E (nI p)) (upd A E (nI a)) (upd Wt E 0) (upd R E 0) (upd S E (-1)) (upd Pl E (-1)) (upd md E (-1)) li lt) : wpY_makeEvent post (nI nP, nI nW, nI nD, nI nL, nI E, ra, cd, cx, cy, ln, rg, ct, K, O, A, Wt, R, S, Pl, md, li, lt) (nI p) 3 (nI x) (nI a) := by
  have cE := so_cl (e := E) (by omega)
  have hv := vp_in_nI hE (by decide)
  unfold wpY_makeEvent
  dsimp only
  rw [so_i4, cE]
  refine nm_e ⟨hv, nm_e ⟨hv, nm_e (br_f (by decide) ?_)⟩⟩
  unfold wY_makeEvent_46
  rw [cE]
  refine ⟨hv, nm_e ⟨hv, nm_e ⟨hv, nm_e ⟨hv, nm_e ⟨hv, nm_e ⟨hv, nm_e (br_f (by decide) (br_f (by decide) ?_))⟩⟩⟩⟩⟩⟩
  unfold wY_makeEvent_112
  exact br_t rfl h
theorem so_ym4 {post : SY → Prop} (hE : E < 24) (hr : p * 4 + x < 16)
    (h : post (nI nP, nI nW, nI nD, nI nL, nI (E + 1), ra, cd, cx, cy, ln, rg, ct, upd K E 4, upd O E (nI p), upd A E (nI a), upd Wt E (rg (p * 4 + x)), upd R E 0, upd S E (-1), upd Pl E (-1), upd md E (-1), li, lt)) : wpY_makeEvent post (nI nP, nI nW, nI nD, nI nL, nI E, ra, cd, cx, cy, ln, rg, ct, K, O, A, Wt, R, S, Pl, md, li, lt) (nI p) 4 (nI x) (nI a) := by
  have cE := so_cl (e := E) (by omega)
  have cr := so_cl (e := p * 4 + x) (by omega)
  have hv := vp_in_nI hE (by decide)
  have hvr := vp_in_nI hr (by decide)
  unfold wpY_makeEvent
  dsimp only
  rw [so_i4, cE]
  refine nm_e ⟨hv, nm_e ⟨hv, nm_e (br_f (by decide) ?_)⟩⟩
  unfold wY_makeEvent_46
  rw [cE]
  refine ⟨hv, nm_e ⟨hv, nm_e ⟨hv, nm_e ⟨hv, nm_e ⟨hv, nm_e ⟨hv, nm_e (br_t rfl ?_)⟩⟩⟩⟩⟩⟩
  unfold wY_makeEvent_98
  rw [cE, cr, so_uu]
  refine ⟨hvr, hv, nm_e ?_⟩
  unfold wY_makeEvent_112
  exact br_f (by decide) (br_f (by decide) (nm_r (nI_1 E) h))
theorem so_ym5 {post : SY → Prop} {x y : Int32} (hE : E < 24)
    (h : post (nI nP, nI nW, nI nD, nI nL, nI (E + 1), ra, cd, cx, cy, ln, rg, ct, upd K E 5, upd O E (nI p), upd A E (-1), upd Wt E 0, upd R E 0, upd S E (-1), upd Pl E (-1), upd md E (-1), li, lt)) : wpY_makeEvent post (nI nP, nI nW, nI nD, nI nL, nI E, ra, cd, cx, cy, ln, rg, ct, K, O, A, Wt, R, S, Pl, md, li, lt) (nI p) 5 x y := by
  have cE := so_cl (e := E) (by omega)
  have hv := vp_in_nI hE (by decide)
  unfold wpY_makeEvent
  dsimp only
  rw [cE]
  refine nm_e ⟨hv, nm_e ⟨hv, nm_e (br_t rfl ?_)⟩⟩
  unfold wY_makeEvent_46
  rw [cE]
  refine ⟨hv, nm_e ⟨hv, nm_e ⟨hv, nm_e ⟨hv, nm_e ⟨hv, nm_e ⟨hv, nm_e (br_f (by decide) (br_f (by decide) ?_))⟩⟩⟩⟩⟩⟩
  unfold wY_makeEvent_112
  exact br_f (by decide) (br_f (by decide) (nm_r (nI_1 E) h))
theorem so_ym6 {post : SY → Prop} (hE : E < 24) (hr : p * 4 + x < 16)
    (h : wY_makeEvent_123 post (nI p) (nI a) (nI E) (nI (p * 4 + x)) (nI nP) (nI nW) (nI nD) (nI nL) (nI E) ra cd cx cy ln rg ct (upd K E 6) (upd O E (nI p)) (upd A E (nI a)) (upd Wt E (rg (p * 4 + x))) (upd R E 0) (upd S E (-1)) (upd Pl E (-1)) (upd md E (-1)) li lt) : wpY_makeEvent post (nI nP, nI nW, nI nD, nI nL, nI E, ra, cd, cx, cy, ln, rg, ct, K, O, A, Wt, R, S, Pl, md, li, lt) (nI p) 6 (nI x) (nI a) := by
  have cE := so_cl (e := E) (by omega)
  have cr := so_cl (e := p * 4 + x) (by omega)
  have hv := vp_in_nI hE (by decide)
  have hvr := vp_in_nI hr (by decide)
  unfold wpY_makeEvent
  dsimp only
  rw [so_i4, cE]
  refine nm_e ⟨hv, nm_e ⟨hv, nm_e (br_f (by decide) ?_)⟩⟩
  unfold wY_makeEvent_46
  rw [cE]
  refine ⟨hv, nm_e ⟨hv, nm_e ⟨hv, nm_e ⟨hv, nm_e ⟨hv, nm_e ⟨hv, nm_e (br_f (by decide) (br_t rfl ?_))⟩⟩⟩⟩⟩⟩
  unfold wY_makeEvent_98
  rw [cE, cr, so_uu]
  refine ⟨hvr, hv, nm_e ?_⟩
  unfold wY_makeEvent_112
  exact br_f (by decide) (br_t rfl h)
theorem so_ye0 {post : Int32 → SY → Prop} {y : Int32} (hp : p < 4) (hx : x < 4) (hct : ct p = nI c) (h : post 0 (nI nP, nI nW, nI nD, nI nL, nI E, ra, cd, cx, cy, ln, upd rg (p * 4 + x) y, upd ct p (nI (c + 1)), K, O, A, Wt, R, S, Pl, md, li, lt)) : wY_step_130 post (nI p) 0 (nI x) y (nI nP) (nI nW) (nI nD) (nI nL) (nI E) ra cd cx cy ln rg ct K O A Wt R S Pl md li lt := by
  have cp := so_cl (e := p) (by omega)
  have cr := so_cl (e := p * 4 + x) (by omega)
  have hvp := vp_in_nI hp (by decide)
  have hvr := vp_in_nI (n := p * 4 + x) (N := 16) (by omega) (by decide)
  unfold wY_step_130
  rw [cp, hct, so_i4, cr, nI_1]
  exact ⟨hvp, nm_e (br_t rfl ⟨hvr, nm_e ⟨hvp, nm_e h⟩⟩)⟩
theorem so_ye1 {post : Int32 → SY → Prop} {y : Nat} (hp : p < 4) (hx : x < 4) (hy : y < 4) (hct : ct p = nI c) (h : post 0 (nI nP, nI nW, nI nD, nI nL, nI E, ra, cd, cx, cy, ln, upd rg (p * 4 + x) (rg (p * 4 + x) + rg (p * 4 + y)), upd ct p (nI (c + 1)), K, O, A, Wt, R, S, Pl, md, li, lt)) : wY_step_130 post (nI p) 1 (nI x) (nI y) (nI nP) (nI nW) (nI nD) (nI nL) (nI E) ra cd cx cy ln rg ct K O A Wt R S Pl md li lt := by
  have cp := so_cl (e := p) (by omega)
  have cr := so_cl (e := p * 4 + x) (by omega)
  have cy' := so_cl (e := p * 4 + y) (by omega)
  have hvp := vp_in_nI hp (by decide)
  have hvr := vp_in_nI (n := p * 4 + x) (N := 16) (by omega) (by decide)
  have hvy := vp_in_nI (n := p * 4 + y) (N := 16) (by omega) (by decide)
  unfold wY_step_130
  rw [cp, hct, so_i4, so_i4, cr, cy', nI_1]
  exact ⟨hvp, nm_e (br_f (by decide) (br_t rfl ⟨hvr, hvy, hvr, nm_e ⟨hvp, nm_e h⟩⟩))⟩
theorem so_ye2 {post : Int32 → SY → Prop} {y : Nat} (hp : p < 4) (hx : x < 4) (hct : ct p = nI c) (h : post 0 (nI nP, nI nW, nI nD, nI nL, nI E, ra, cd, cx, cy, ln, rg, upd ct p (nI (if rg (p * 4 + x) = 0 then y else c + 1)), K, O, A, Wt, R, S, Pl, md, li, lt)) : wY_step_130 post (nI p) 2 (nI x) (nI y) (nI nP) (nI nW) (nI nD) (nI nL) (nI E) ra cd cx cy ln rg ct K O A Wt R S Pl md li lt := by
  have cp := so_cl (e := p) (by omega)
  have cr := so_cl (e := p * 4 + x) (by omega)
  have hvp := vp_in_nI hp (by decide)
  have hvr := vp_in_nI (n := p * 4 + x) (N := 16) (by omega) (by decide)
  unfold wY_step_130
  rw [cp, hct, so_i4, cr, nI_1]
  refine ⟨hvp, nm_e (br_f (by decide) (br_f (by decide) (br_t rfl ⟨hvr, br_c (fun q => ⟨hvp, nm_e ?_⟩) (fun q => ⟨hvp, nm_e ?_⟩)⟩)))⟩
  · rw [if_pos q] at h
    exact h
  · rw [if_neg q] at h
    exact h
/-- an instruction that makes an event -/
theorem so_yem {post : Int32 → SY → Prop} {op x y : Int32} (hp : p < 4) (hct : ct p = nI c) (h0 : ¬ op = 0) (h1 : ¬ op = 1) (h2 : ¬ op = 2)
    (h : wpY_makeEvent (fun u => match u with | (f1, f2, f3, f4, f5, ra, cd, cx, cy, ln, rg, ct, K, O, A, Wt, R, S, Pl, md, li, lt) => (vp_in (nI p) 4 ∧ ∀ ct' : Nat → Int32, ct' = upd ct p (nI (c + 1)) → post 0 (f1, f2, f3, f4, f5, ra, cd, cx, cy, ln, rg, ct', K, O, A, Wt, R, S, Pl, md, li, lt))) (nI nP, nI nW, nI nD, nI nL, nI E, ra, cd, cx, cy, ln, rg, ct, K, O, A, Wt, R, S, Pl, md, li, lt) (nI p) op x y) : wY_step_130 post (nI p) op x y (nI nP) (nI nW) (nI nD) (nI nL) (nI E) ra cd cx cy ln rg ct K O A Wt R S Pl md li lt := by
  have cp := so_cl (e := p) (by omega)
  have hvp := vp_in_nI hp (by decide)
  unfold wY_step_130
  rw [cp, hct, nI_1]
  exact ⟨hvp, nm_e (br_f h0 (br_f h1 (br_f h2 h)))⟩
end
end
section
/-! ===== the relation, and one step of both sides ===== -/
/-- the reference's state is the component's shared part, with its own made places; the component keeps the invariant -/
def so_Rel (u : SX) (v : SY) : Prop :=
  ∃ (nP nW nD nL E G : Nat) (md li lt : Nat → Int32), u.1 = nI nP ∧ u.2.1 = nI nW ∧ u.2.2.1 = nI nD ∧ u.2.2.2.1 = nI nL ∧ u.2.2.2.2.1 = nI E ∧ u.2.2.2.2.2.1 = nI G ∧
    v = (nI nP, nI nW, nI nD, nI nL, nI E, u.2.2.2.2.2.2.1, u.2.2.2.2.2.2.2.2.1, u.2.2.2.2.2.2.2.2.2.1, u.2.2.2.2.2.2.2.2.2.2.1, u.2.2.2.2.2.2.2.2.2.2.2.1, u.2.2.2.2.2.2.2.2.2.2.2.2.1, u.2.2.2.2.2.2.2.2.2.2.2.2.2.1, u.2.2.2.2.2.2.2.2.2.2.2.2.2.2.2.2.2.2.2.2.2.1, u.2.2.2.2.2.2.2.2.2.2.2.2.2.2.2.2.2.2.2.2.2.2.1, u.2.2.2.2.2.2.2.2.2.2.2.2.2.2.2.2.2.2.2.2.2.2.2.1, u.2.2.2.2.2.2.2.2.2.2.2.2.2.2.2.2.2.2.2.2.2.2.2.2.1, u.2.2.2.2.2.2.2.2.2.2.2.2.2.2.2.2.2.2.2.2.2.2.2.2.2.1, u.2.2.2.2.2.2.2.2.2.2.2.2.2.2.2.2.2.2.2.2.2.2.2.2.2.2.1, u.2.2.2.2.2.2.2.2.2.2.2.2.2.2.2.2.2.2.2.2.2.2.2.2.2.2.2.1, md, li, lt) ∧
    so_I nP nW nD nL E G u.2.2.2.2.2.2.1 u.2.2.2.2.2.2.2.2.1 u.2.2.2.2.2.2.2.2.2.1 u.2.2.2.2.2.2.2.2.2.2.1 u.2.2.2.2.2.2.2.2.2.2.2.1 u.2.2.2.2.2.2.2.2.2.2.2.2.2.1 u.2.2.2.2.2.2.2.2.2.2.2.2.2.2.1 u.2.2.2.2.2.2.2.2.2.2.2.2.2.2.2.1 u.2.2.2.2.2.2.2.2.2.2.2.2.2.2.2.2.1 u.2.2.2.2.2.2.2.2.2.2.2.2.2.2.2.2.2.1 u.2.2.2.2.2.2.2.2.2.2.2.2.2.2.2.2.2.2.1 u.2.2.2.2.2.2.2.2.2.2.2.2.2.2.2.2.2.2.2.1 u.2.2.2.2.2.2.2.2.2.2.2.2.2.2.2.2.2.2.2.2.1 u.2.2.2.2.2.2.2.2.2.2.2.2.2.2.2.2.2.2.2.2.2.1 u.2.2.2.2.2.2.2.2.2.2.2.2.2.2.2.2.2.2.2.2.2.2.1 u.2.2.2.2.2.2.2.2.2.2.2.2.2.2.2.2.2.2.2.2.2.2.2.1 u.2.2.2.2.2.2.2.2.2.2.2.2.2.2.2.2.2.2.2.2.2.2.2.2.1 u.2.2.2.2.2.2.2.2.2.2.2.2.2.2.2.2.2.2.2.2.2.2.2.2.2.2.1 u.2.2.2.2.2.2.2.2.2.2.2.2.2.2.2.2.2.2.2.2.2.2.2.2.2.2.2.1 md
section
variable {nP nW nD nL E G : Nat} {ra ac : Int32} {cd cx cy ln rg ct bE bA bV hea pn wd wr K O A Wt R S Pl nd ar rW rV md li lt : Nat → Int32}
theorem so_mkR (h : so_I nP nW nD nL E G ra cd cx cy ln ct bE bA bV hea pn wd wr K O A Wt S Pl md) : so_Rel (nI nP, nI nW, nI nD, nI nL, nI E, nI G, ra, ac, cd, cx, cy, ln, rg, ct, bE, bA, bV, hea, pn, wd, wr, K, O, A, Wt, R, S, Pl, nd, ar, rW, rV) (nI nP, nI nW, nI nD, nI nL, nI E, ra, cd, cx, cy, ln, rg, ct, K, O, A, Wt, R, S, Pl, md, li, lt) := ⟨nP, nW, nD, nL, E, G, md, li, lt, rfl, rfl, rfl, rfl, rfl, rfl, rfl, h⟩
end
theorem so_el {Q : SX → SY → Prop} (h : ∀ (nP nW nD nL E G : Nat) (ra ac : Int32) (cd cx cy ln rg ct bE bA bV hea pn wd wr K O A Wt R S Pl nd ar rW rV md li lt : Nat → Int32), so_I nP nW nD nL E G ra cd cx cy ln ct bE bA bV hea pn wd wr K O A Wt S Pl md → Q (nI nP, nI nW, nI nD, nI nL, nI E, nI G, ra, ac, cd, cx, cy, ln, rg, ct, bE, bA, bV, hea, pn, wd, wr, K, O, A, Wt, R, S, Pl, nd, ar, rW, rV) (nI nP, nI nW, nI nD, nI nL, nI E, ra, cd, cx, cy, ln, rg, ct, K, O, A, Wt, R, S, Pl, md, li, lt)) {u : SX} {v : SY} (I : so_Rel u v) : Q u v := by
  obtain ⟨nP, nW, nD, nL, E, G, md, li, lt, e1, e2, e3, e4, e5, e6, e7, hI⟩ := I
  subst e7
  obtain ⟨pc, wc, dp, ls, ev, pg, ra, ac, cd, cx, cy, ln, rg, ct, bE, bA, bV, hea, pn, wd, wr, K, O, A, Wt, R, S, Pl, nd, ar, rW, rV⟩ := u
  dsimp only at e1 e2 e3 e4 e5 e6 hI ⊢
  subst e1 e2 e3 e4 e5 e6
  exact h nP nW nD nL E G ra ac cd cx cy ln rg ct bE bA bV hea pn wd wr K O A Wt R S Pl nd ar rW rV md li lt hI
end
section
/-! ===== one step of both sides ===== -/
def so_ref (op : Int32) (E nL n nD : Nat) : Int32 := if ¬ op < 3 ∧ ¬ nI E < nI nL then -8 else if op = 4 ∧ ¬ nI n < nI nD then -9 else if (op = 5 ∨ op = 6) ∧ ¬ nI n ≤ 0 then -9 else 0
theorem so_ref_L {op : Int32} {E nL n nD : Nat} (hE : E ≤ nL) (hL : nL ≤ 24) (q : so_ref op E nL n nD = 0) (h : ¬ op < 3) : E < nL := by
  by_cases z : nI E < nI nL
  · by_cases w : E < nL
    · exact w
    · exact absurd z (nI_nlt (by omega) (by omega))
  · rw [so_ref, if_pos ⟨h, z⟩] at q
    exact absurd q (by decide)
theorem so_ref_4 {E nL n nD : Nat} (hn : n ≤ nD) (hD : nD ≤ 4) (q : so_ref 4 E nL n nD = 0) : n < nD := by
  by_cases z : nI n < nI nD
  · by_cases w : n < nD
    · exact w
    · exact absurd z (nI_nlt (by omega) (by omega))
  · rw [so_ref] at q
    split at q
    · exact absurd q (by decide)
    · rw [if_pos ⟨rfl, z⟩] at q
      exact absurd q (by decide)
theorem so_ref_5 {op : Int32} {E nL n nD : Nat} (hn : n ≤ 4) (h : op = 5 ∨ op = 6) (q : so_ref op E nL n nD = 0) : n = 0 := by
  by_cases z : n = 0
  · exact z
  · rw [so_ref] at q
    split at q
    · exact absurd q (by decide)
    · split at q
      · exact absurd q (by decide)
      · rw [if_pos ⟨h, nI_nle (by omega) (by omega)⟩] at q
        exact absurd q (by decide)
section
variable {nP nW nD nL E G : Nat} {ra ac : Int32} {cd cx cy ln rg ct bE bA bV hea pn wd wr K O A Wt R S Pl nd ar rW rV md li lt : Nat → Int32}
variable {p a c x n l h : Nat} {s : Nat → Nat}
theorem so_xref {post : Int32 → Prop} {op : Int32} (hp : p < 4) (hpn : pn p = nI n) (h : post (so_ref op E nL n nD)) : wpX_stepRefusal post (nI nP, nI nW, nI nD, nI nL, nI E, nI G, ra, ac, cd, cx, cy, ln, rg, ct, bE, bA, bV, hea, pn, wd, wr, K, O, A, Wt, R, S, Pl, nd, ar, rW, rV) (nI p) op := by
  have cp := so_cl (e := p) (by omega)
  have hvp := vp_in_nI hp (by decide)
  unfold so_ref at h
  have h50 : ¬ (¬ op < 3 ∧ ¬ nI E < nI nL) → ¬ (op = 4 ∧ ¬ nI n < nI nD) → wX_stepRefusal_50 post (nI p) op (nI nP) (nI nW) (nI nD) (nI nL) (nI E) (nI G) ra ac cd cx cy ln rg ct bE bA bV hea pn wd wr K O A Wt R S Pl nd ar rW rV := by
    intro q1 q2
    rw [if_neg q1, if_neg q2] at h
    have h61 : (op = 5 ∨ op = 6) → wX_stepRefusal_61 post (nI p) (nI nP) (nI nW) (nI nD) (nI nL) (nI E) (nI G) ra ac cd cx cy ln rg ct bE bA bV hea pn wd wr K O A Wt R S Pl nd ar rW rV := by
      intro q3
      unfold wX_stepRefusal_61
      rw [cp, hpn]
      refine ⟨hvp, br_c (fun q4 => ?_) (fun q4 => ?_)⟩
      · rw [if_neg (fun z => z.2 q4)] at h
        exact h
      · rw [if_pos ⟨q3, q4⟩] at h
        exact h
    unfold wX_stepRefusal_50
    refine br_c (fun q3 => h61 (Or.inl q3)) (fun q3 => br_c (fun q4 => h61 (Or.inr q4)) (fun q4 => ?_))
    rw [if_neg (fun z => z.1.elim q3 q4)] at h
    exact h
  have h29 : ¬ (¬ op < 3 ∧ ¬ nI E < nI nL) → wX_stepRefusal_29 post (nI p) op (nI nP) (nI nW) (nI nD) (nI nL) (nI E) (nI G) ra ac cd cx cy ln rg ct bE bA bV hea pn wd wr K O A Wt R S Pl nd ar rW rV := by
    intro q1
    unfold wX_stepRefusal_29
    rw [cp, hpn]
    refine br_c (fun q2 => ⟨hvp, br_c (fun q3 => h50 q1 (fun z => z.2 q3)) (fun q3 => ?_)⟩) (fun q2 => h50 q1 (fun z => q2 z.1))
    rw [if_neg q1, if_pos ⟨q2, q3⟩] at h
    exact h
  unfold wpX_stepRefusal
  dsimp only
  refine br_c (fun q => ?_) (fun q => ?_)
  · unfold wX_stepRefusal_10
    exact br_t rfl (h29 (fun z => z.1 q))
  · unfold wX_stepRefusal_10
    refine br_f (by decide) (br_c (fun q1 => h29 (fun z => z.2 q1)) (fun q1 => ?_))
    rw [if_pos ⟨q, q1⟩] at h
    exact h
theorem so_yref {post : Int32 → SY → Prop} {op x y : Int32} (hpd : ∀ post : Int32 → Prop, post (nI n) → wpY_pending post (nI nP, nI nW, nI nD, nI nL, nI E, ra, cd, cx, cy, ln, rg, ct, K, O, A, Wt, R, S, Pl, md, li, lt) (nI p)) (h0 : so_ref op E nL n nD = 0 → wY_step_130 post (nI p) op x y (nI nP) (nI nW) (nI nD) (nI nL) (nI E) ra cd cx cy ln rg ct K O A Wt R S Pl md li lt) (h1 : ¬ so_ref op E nL n nD = 0 → post (so_ref op E nL n nD) (nI nP, nI nW, nI nD, nI nL, nI E, ra, cd, cx, cy, ln, rg, ct, K, O, A, Wt, R, S, Pl, md, li, lt)) :
    (op < 3 → wY_step_87 post (nI p) op x y (nI nP) (nI nW) (nI nD) (nI nL) (nI E) ra cd cx cy ln rg ct K O A Wt R S Pl md li lt) ∧ (¬ op < 3 → ((nI E < nI nL → wY_step_87 post (nI p) op x y (nI nP) (nI nW) (nI nD) (nI nL) (nI E) ra cd cx cy ln rg ct K O A Wt R S Pl md li lt) ∧ (¬ nI E < nI nL → post (-8) (nI nP, nI nW, nI nD, nI nL, nI E, ra, cd, cx, cy, ln, rg, ct, K, O, A, Wt, R, S, Pl, md, li, lt)))) := by
  have hc : ∀ r, so_ref op E nL n nD = r → ¬ r = 0 → post r (nI nP, nI nW, nI nD, nI nL, nI E, ra, cd, cx, cy, ln, rg, ct, K, O, A, Wt, R, S, Pl, md, li, lt) := by
    intro r e hr
    rw [← e] at hr ⊢
    exact h1 hr
  have h111 : ¬ (¬ op < 3 ∧ ¬ nI E < nI nL) → ¬ (op = 4 ∧ ¬ nI n < nI nD) → wY_step_111 post (nI p) op x y (nI n) (nI nP) (nI nW) (nI nD) (nI nL) (nI E) ra cd cx cy ln rg ct K O A Wt R S Pl md li lt := by
    intro q1 q2
    have h122 : (op = 5 ∨ op = 6) → wY_step_122 post (nI p) op x y (nI n) (nI nP) (nI nW) (nI nD) (nI nL) (nI E) ra cd cx cy ln rg ct K O A Wt R S Pl md li lt := by
      intro q3
      unfold wY_step_122
      exact br_c (fun q4 => h0 (by rw [so_ref, if_neg q1, if_neg q2, if_neg (fun z => z.2 q4)])) (fun q4 => hc (-9) (by rw [so_ref, if_neg q1, if_neg q2, if_pos ⟨q3, q4⟩]) (by decide))
    unfold wY_step_111
    exact br_c (fun q3 => h122 (Or.inl q3)) (fun q3 => br_c (fun q4 => h122 (Or.inr q4)) (fun q4 => h0 (by rw [so_ref, if_neg q1, if_neg q2, if_neg (fun z => z.1.elim q3 q4)])))
  have h87 : ¬ (¬ op < 3 ∧ ¬ nI E < nI nL) → wY_step_87 post (nI p) op x y (nI nP) (nI nW) (nI nD) (nI nL) (nI E) ra cd cx cy ln rg ct K O A Wt R S Pl md li lt := by
    intro q1
    unfold wY_step_87
    exact hpd _ (br_c (fun q2 => br_c (fun q3 => h111 q1 (fun z => z.2 q3)) (fun q3 => hc (-9) (by rw [so_ref, if_neg q1, if_pos ⟨q2, q3⟩]) (by decide))) (fun q2 => h111 q1 (fun z => q2 z.1)))
  exact br_c (fun q => h87 (fun z => z.1 q)) (fun q => br_c (fun q1 => h87 (fun z => z.2 q1)) (fun q1 => hc (-8) (by rw [so_ref, if_pos ⟨q, q1⟩]) (by decide)))
theorem so_xsp {post : Int32 → SX → Prop} {u' : SX} (hP : nP ≤ 4) (hp : p < nP) (hct : ct p = nI c) (hln : ln p = nI l) (hcl : c < l) (hl : l ≤ 16) (hpn : pn p = nI n)
    (hex : so_ref (cd (p * 16 + c)) E nL n nD = 0 → ∀ po : SX → Prop, po u' → wpX_execute po (nI nP, nI nW, nI nD, nI nL, nI E, nI G, ra, ac, cd, cx, cy, ln, rg, ct, bE, bA, bV, hea, pn, wd, wr, K, O, A, Wt, R, S, Pl, nd, ar, rW, rV) (nI p) (cd (p * 16 + c)) (cx (p * 16 + c)) (cy (p * 16 + c))) (h0 : so_ref (cd (p * 16 + c)) E nL n nD = 0 → post 0 u') (h1 : ¬ so_ref (cd (p * 16 + c)) E nL n nD = 0 → post (so_ref (cd (p * 16 + c)) E nL n nD) (nI nP, nI nW, nI nD, nI nL, nI E, nI G, ra, ac, cd, cx, cy, ln, rg, ct, bE, bA, bV, hea, pn, wd, wr, K, O, A, Wt, R, S, Pl, nd, ar, rW, rV)) : wpX_step post (nI nP, nI nW, nI nD, nI nL, nI E, nI G, ra, ac, cd, cx, cy, ln, rg, ct, bE, bA, bV, hea, pn, wd, wr, K, O, A, Wt, R, S, Pl, nd, ar, rW, rV) (nI p) := by
  have cp := so_cl (e := p) (by omega)
  have cs := nI_clamp (n := p * 16 + c) (by omega)
  have hvp := vp_in_nI (n := p) (N := 4) (by omega) (by decide)
  have hvs := vp_in_nI (n := p * 16 + c) (N := 64) (by omega) (by decide)
  unfold wpX_step
  dsimp only
  rw [cp, hct, hln, so_i16]
  refine so_xP1 hp hP (br_f (by decide) ⟨hvp, hvp, br_t (nI_lt hcl (by omega)) ⟨hvp, nm_e ⟨hvs, nm_e ?_⟩⟩⟩)
  rw [cs]
  refine so_xref (by omega) hpn (br_c (fun q => ⟨hvs, hvs, hex q _ ?_⟩) (fun q => h1 q))
  obtain ⟨b1, b2, b3, b4, b5, b6, b7, b8, b9, b10, b11, b12, b13, b14, b15, b16, b17, b18, b19, b20, b21, b22, b23, b24, b25, b26, b27, b28, b29, b30, b31, b32⟩ := u'
  exact h0 q
theorem so_ysp {post : Int32 → SY → Prop} (hP : nP ≤ 4) (hp : p < nP) (hct : ct p = nI c) (hln : ln p = nI l) (hcl : c < l) (hl : l ≤ 16) (hpd : ∀ post : Int32 → Prop, post (nI n) → wpY_pending post (nI nP, nI nW, nI nD, nI nL, nI E, ra, cd, cx, cy, ln, rg, ct, K, O, A, Wt, R, S, Pl, md, li, lt) (nI p))
    (h0 : so_ref (cd (p * 16 + c)) E nL n nD = 0 → wY_step_130 post (nI p) (cd (p * 16 + c)) (cx (p * 16 + c)) (cy (p * 16 + c)) (nI nP) (nI nW) (nI nD) (nI nL) (nI E) ra cd cx cy ln rg ct K O A Wt R S Pl md li lt) (h1 : ¬ so_ref (cd (p * 16 + c)) E nL n nD = 0 → post (so_ref (cd (p * 16 + c)) E nL n nD) (nI nP, nI nW, nI nD, nI nL, nI E, ra, cd, cx, cy, ln, rg, ct, K, O, A, Wt, R, S, Pl, md, li, lt)) : wpY_step post (nI nP, nI nW, nI nD, nI nL, nI E, ra, cd, cx, cy, ln, rg, ct, K, O, A, Wt, R, S, Pl, md, li, lt) (nI p) := by
  have cp := so_cl (e := p) (by omega)
  have cs := nI_clamp (n := p * 16 + c) (by omega)
  have hvp := vp_in_nI (n := p) (N := 4) (by omega) (by decide)
  have hvs := vp_in_nI (n := p * 16 + c) (N := 64) (by omega) (by decide)
  unfold wpY_step
  dsimp only
  rw [cp, hct, hln, so_i16]
  refine br_f (nI_pos (by omega)) (br_t (nI_lt hp (by omega)) ⟨hvp, hvp, br_t (nI_lt hcl (by omega)) ⟨hvp, nm_e ⟨hvs, ?_⟩⟩⟩)
  rw [cs]
  exact nm_e ⟨hvs, nm_e ⟨hvs, nm_e (so_yref hpd h0 h1)⟩⟩
end
end
section
/-! ===== the seven instructions of both sides; one step ===== -/
/-- both sides execute the instruction, and end in related states -/
def so_ex (X : SX) (y130 : (Int32 → SY → Prop) → Prop) (p op x y : Int32) : Prop :=
  ∃ (u' : SX) (v' : SY), so_Rel u' v' ∧ (∀ po : SX → Prop, po u' → wpX_execute po X p op x y) ∧ (∀ po : Int32 → SY → Prop, po 0 v' → y130 po)
section
variable {nP nW nD nL E G : Nat} {ra ac : Int32} {cd cx cy ln rg ct bE bA bV hea pn wd wr K O A Wt R S Pl nd ar rW rV md li lt : Nat → Int32}
variable {p a c x n h : Nat} {s : Nat → Nat}
theorem so_o0 {y : Int32} (hI : so_I nP nW nD nL E G ra cd cx cy ln ct bE bA bV hea pn wd wr K O A Wt S Pl md) (hp : p < 4) (hx : x < 4) (hct : ct p = nI c) (hc : c < 16) : so_ex (nI nP, nI nW, nI nD, nI nL, nI E, nI G, ra, ac, cd, cx, cy, ln, rg, ct, bE, bA, bV, hea, pn, wd, wr, K, O, A, Wt, R, S, Pl, nd, ar, rW, rV) (fun po => wY_step_130 po (nI p) 0 (nI x) y (nI nP) (nI nW) (nI nD) (nI nL) (nI E) ra cd cx cy ln rg ct K O A Wt R S Pl md li lt) (nI p) 0 (nI x) y :=
  ⟨(nI nP, nI nW, nI nD, nI nL, nI E, nI G, ra, ac, cd, cx, cy, ln, upd rg (p * 4 + x) y, upd ct p (nI (c + 1)), bE, bA, bV, hea, pn, wd, wr, K, O, A, Wt, R, S, Pl, nd, ar, rW, rV), (nI nP, nI nW, nI nD, nI nL, nI E, ra, cd, cx, cy, ln, upd rg (p * 4 + x) y, upd ct p (nI (c + 1)), K, O, A, Wt, R, S, Pl, md, li, lt), so_mkR (so_I_ct (by omega) hI), fun po hpo => so_xe0 hp hx hct hpo, fun po hpo => so_ye0 hp hx hct hpo⟩
theorem so_o1 {y : Nat} (hI : so_I nP nW nD nL E G ra cd cx cy ln ct bE bA bV hea pn wd wr K O A Wt S Pl md) (hp : p < 4) (hx : x < 4) (hy : y < 4) (hct : ct p = nI c) (hc : c < 16) : so_ex (nI nP, nI nW, nI nD, nI nL, nI E, nI G, ra, ac, cd, cx, cy, ln, rg, ct, bE, bA, bV, hea, pn, wd, wr, K, O, A, Wt, R, S, Pl, nd, ar, rW, rV) (fun po => wY_step_130 po (nI p) 1 (nI x) (nI y) (nI nP) (nI nW) (nI nD) (nI nL) (nI E) ra cd cx cy ln rg ct K O A Wt R S Pl md li lt) (nI p) 1 (nI x) (nI y) :=
  ⟨(nI nP, nI nW, nI nD, nI nL, nI E, nI G, ra, ac, cd, cx, cy, ln, upd rg (p * 4 + x) (rg (p * 4 + x) + rg (p * 4 + y)), upd ct p (nI (c + 1)), bE, bA, bV, hea, pn, wd, wr, K, O, A, Wt, R, S, Pl, nd, ar, rW, rV), (nI nP, nI nW, nI nD, nI nL, nI E, ra, cd, cx, cy, ln, upd rg (p * 4 + x) (rg (p * 4 + x) + rg (p * 4 + y)), upd ct p (nI (c + 1)), K, O, A, Wt, R, S, Pl, md, li, lt), so_mkR (so_I_ct (by omega) hI), fun po hpo => so_xe1 hp hx hy hct hpo, fun po hpo => so_ye1 hp hx hy hct hpo⟩
theorem so_o2 {y : Nat} (hI : so_I nP nW nD nL E G ra cd cx cy ln ct bE bA bV hea pn wd wr K O A Wt S Pl md) (hp : p < 4) (hx : x < 4) (hy : y ≤ 16) (hct : ct p = nI c) (hc : c < 16) : so_ex (nI nP, nI nW, nI nD, nI nL, nI E, nI G, ra, ac, cd, cx, cy, ln, rg, ct, bE, bA, bV, hea, pn, wd, wr, K, O, A, Wt, R, S, Pl, nd, ar, rW, rV) (fun po => wY_step_130 po (nI p) 2 (nI x) (nI y) (nI nP) (nI nW) (nI nD) (nI nL) (nI E) ra cd cx cy ln rg ct K O A Wt R S Pl md li lt) (nI p) 2 (nI x) (nI y) := by
  refine ⟨(nI nP, nI nW, nI nD, nI nL, nI E, nI G, ra, ac, cd, cx, cy, ln, rg, upd ct p (nI (if rg (p * 4 + x) = 0 then y else c + 1)), bE, bA, bV, hea, pn, wd, wr, K, O, A, Wt, R, S, Pl, nd, ar, rW, rV), (nI nP, nI nW, nI nD, nI nL, nI E, ra, cd, cx, cy, ln, rg, upd ct p (nI (if rg (p * 4 + x) = 0 then y else c + 1)), K, O, A, Wt, R, S, Pl, md, li, lt), so_mkR (so_I_ct ?_ hI), fun po hpo => so_xe2 hp hx hct hpo, fun po hpo => so_ye2 hp hx hct hpo⟩
  split <;> omega
theorem so_o3 (hI : so_I nP nW nD nL E G ra cd cx cy ln ct bE bA bV hea pn wd wr K O A Wt S Pl md) (hp : p < nP) (ha : a < nW) (hx : x < 4) (hct : ct p = nI c) (hc : c < 16) (hL : E < nL) (hn : n ≤ 4) (hh : h < 4) (hpn : pn p = nI n) (hhe : hea p = nI h) (Hq : so_Bq E K O A Wt md bE bA bV p n h s) : so_ex (nI nP, nI nW, nI nD, nI nL, nI E, nI G, ra, ac, cd, cx, cy, ln, rg, ct, bE, bA, bV, hea, pn, wd, wr, K, O, A, Wt, R, S, Pl, nd, ar, rW, rV) (fun po => wY_step_130 po (nI p) 3 (nI x) (nI a) (nI nP) (nI nW) (nI nD) (nI nL) (nI E) ra cd cx cy ln rg ct K O A Wt R S Pl md li lt) (nI p) 3 (nI x) (nI a) := by
  have hI' := hI
  obtain ⟨⟨s1, s2, s3, s4, s5, s6, s7, s8, s9⟩, h2, h3, h4, h5, h6, h7, h8⟩ := hI'
  have hvp := vp_in_nI (n := p) (N := 4) (by omega) (by decide)
  have Hq1 : so_Bq E (upd K E 3) (upd O E (nI p)) (upd A E (nI a)) (upd Wt E 0) (upd md E (-1)) bE bA bV p n h s := so_Bq_c so_ue so_ue (fun e he => so_pd_u (by omega)) (fun _ _ => rfl) (fun _ _ => rfl) (fun _ _ => rfl) Hq
  have Hw1 : so_Wr E (upd K E 3) (upd A E (nI a)) (upd Wt E 0) (upd md E (-1)) a (wr a) (wd a) := so_Wr_c so_ue so_ue so_ue so_ue (h7 a ha)
  have hG1 : so_cnt (so_mk (upd md E (-1))) E 0 = G := by
    rw [so_cnt_c (g := so_mk md) E 0 (fun j _ hj => so_mk_u (by omega)), ← h5.1]
  obtain ⟨sl, s', z, hX, hY, hz1, hz2⟩ := so_see (nP := nP) (nW := nW) (nD := nD) (nL := nL) (E := E) (G := G) (ra := ra) (ac := ac) (cd := cd) (cx := cx) (cy := cy) (ln := ln) (rg := rg) (ct := ct) (bE := bE) (bA := bA) (bV := bV) (hea := hea) (pn := pn) (wd := wd) (wr := wr) (K := upd K E 3) (O := upd O E (nI p)) (A := upd A E (nI a)) (Wt := upd Wt E 0) (R := upd R E 0) (S := upd S E (-1)) (Pl := upd Pl E (-1)) (nd := nd) (ar := ar) (rW := rW) (rV := rV) (md := upd md E (-1)) (li := li) (lt := lt) (xv := nI (E + 1)) (by omega : p < 4) hn hh hpn hhe (by omega) Hq1 Hw1
  refine ⟨(nI nP, nI nW, nI nD, nI nL, nI (E + 1), nI (G + 1), ra, ac, cd, cx, cy, ln, upd rg (p * 4 + x) z, upd ct p (nI (c + 1)), bE, bA, bV, hea, pn, wd, wr, upd K E 3, upd O E (nI p), upd A E (nI a), upd Wt E 0, upd R E z, upd S E s', upd Pl E (nI G), nd, ar, rW, rV), (nI nP, nI nW, nI nD, nI nL, nI (E + 1), ra, cd, cx, cy, ln, upd rg (p * 4 + x) z, upd ct p (nI (c + 1)), upd K E 3, upd O E (nI p), upd A E (nI a), upd Wt E 0, upd R E z, upd S E s', upd Pl E (nI G), upd md E (nI G), li, lt), so_mkR (so_I_ct (by omega) (so_I_3 hL ha ?_ hI)), fun po hpo => so_xe3 (by omega) (by omega) (by omega) hx hct hX hz1 hpo, fun po hpo => so_yem (by omega) hct (by decide) (by decide) (by decide) (so_ym3 (by omega) (so_y123 (by omega) (by omega) hY hG1 hz2 ?_))⟩
  · rcases hz2 with ⟨e1, _⟩ | ⟨i, e1, e2, _⟩
    · exact Or.inl e1
    · exact Or.inr ⟨i, e1, e2⟩
  · dsimp only
    simp only [so_uu]
    exact ⟨hvp, nm_e hpo⟩
theorem so_o4 (hI : so_I nP nW nD nL E G ra cd cx cy ln ct bE bA bV hea pn wd wr K O A Wt S Pl md) (hp : p < nP) (ha : a < nW) (hx : x < 4) (hct : ct p = nI c) (hc : c < 16) (hL : E < nL) (hn : n < nD) (hh : h < 4) (hpn : pn p = nI n) (hhe : hea p = nI h) (Hq : so_Bq E K O A Wt md bE bA bV p n h s) : so_ex (nI nP, nI nW, nI nD, nI nL, nI E, nI G, ra, ac, cd, cx, cy, ln, rg, ct, bE, bA, bV, hea, pn, wd, wr, K, O, A, Wt, R, S, Pl, nd, ar, rW, rV) (fun po => wY_step_130 po (nI p) 4 (nI x) (nI a) (nI nP) (nI nW) (nI nD) (nI nL) (nI E) ra cd cx cy ln rg ct K O A Wt R S Pl md li lt) (nI p) 4 (nI x) (nI a) := by
  have hI' := hI
  obtain ⟨⟨s1, s2, s3, s4, s5, s6, s7, s8, s9⟩, h2, h3, h4, h5, h6, h7, h8⟩ := hI'
  have hvp := vp_in_nI (n := p) (N := 4) (by omega) (by decide)
  refine ⟨(nI nP, nI nW, nI nD, nI nL, nI (E + 1), nI G, ra, ac, cd, cx, cy, ln, rg, upd ct p (nI (c + 1)), upd bE (p * 4 + (h + n) % 4) (nI E), upd bA (p * 4 + (h + n) % 4) (nI a), upd bV (p * 4 + (h + n) % 4) (rg (p * 4 + x)), hea, upd pn p (nI (n + 1)), wd, wr, upd K E 4, upd O E (nI p), upd A E (nI a), upd Wt E (rg (p * 4 + x)), upd R E 0, upd S E (-1), upd Pl E (-1), nd, ar, rW, rV), (nI nP, nI nW, nI nD, nI nL, nI (E + 1), ra, cd, cx, cy, ln, rg, upd ct p (nI (c + 1)), upd K E 4, upd O E (nI p), upd A E (nI a), upd Wt E (rg (p * 4 + x)), upd R E 0, upd S E (-1), upd Pl E (-1), upd md E (-1), li, lt), so_mkR (so_I_ct (by omega) (so_I_4 hL ha hp hn hh hhe Hq hI)), fun po hpo => so_xe4 (by omega) (by omega) hx hct (by omega) hh hpn hhe hpo, fun po hpo => so_yem (by omega) hct (by decide) (by decide) (by decide) (so_ym4 (by omega) (by omega) ?_)⟩
  dsimp only
  exact ⟨hvp, nm_e hpo⟩
theorem so_o5 {x y : Int32} (hI : so_I nP nW nD nL E G ra cd cx cy ln ct bE bA bV hea pn wd wr K O A Wt S Pl md) (hp : p < nP) (hct : ct p = nI c) (hc : c < 16) (hL : E < nL) : so_ex (nI nP, nI nW, nI nD, nI nL, nI E, nI G, ra, ac, cd, cx, cy, ln, rg, ct, bE, bA, bV, hea, pn, wd, wr, K, O, A, Wt, R, S, Pl, nd, ar, rW, rV) (fun po => wY_step_130 po (nI p) 5 x y (nI nP) (nI nW) (nI nD) (nI nL) (nI E) ra cd cx cy ln rg ct K O A Wt R S Pl md li lt) (nI p) 5 x y := by
  have hI' := hI
  obtain ⟨⟨s1, s2, s3, s4, s5, s6, s7, s8, s9⟩, h2, h3, h4, h5, h6, h7, h8⟩ := hI'
  have hvp := vp_in_nI (n := p) (N := 4) (by omega) (by decide)
  refine ⟨(nI nP, nI nW, nI nD, nI nL, nI (E + 1), nI G, ra, ac, cd, cx, cy, ln, rg, upd ct p (nI (c + 1)), bE, bA, bV, hea, pn, wd, wr, upd K E 5, upd O E (nI p), upd A E (-1), upd Wt E 0, upd R E 0, upd S E (-1), upd Pl E (-1), nd, ar, rW, rV), (nI nP, nI nW, nI nD, nI nL, nI (E + 1), ra, cd, cx, cy, ln, rg, upd ct p (nI (c + 1)), upd K E 5, upd O E (nI p), upd A E (-1), upd Wt E 0, upd R E 0, upd S E (-1), upd Pl E (-1), upd md E (-1), li, lt), so_mkR (so_I_ct (by omega) (so_I_5 hL hI)), fun po hpo => so_xe5 (by omega) (by omega) hct hpo, fun po hpo => so_yem (by omega) hct (by decide) (by decide) (by decide) (so_ym5 (by omega) ?_)⟩
  dsimp only
  exact ⟨hvp, nm_e hpo⟩
theorem so_o6 (hI : so_I nP nW nD nL E G ra cd cx cy ln ct bE bA bV hea pn wd wr K O A Wt S Pl md) (hp : p < nP) (ha : a < nW) (hx : x < 4) (hct : ct p = nI c) (hc : c < 16) (hL : E < nL) (hh : h < 4) (hpn : pn p = nI 0) (hhe : hea p = nI h) (Hq : so_Bq E K O A Wt md bE bA bV p 0 h s) : so_ex (nI nP, nI nW, nI nD, nI nL, nI E, nI G, ra, ac, cd, cx, cy, ln, rg, ct, bE, bA, bV, hea, pn, wd, wr, K, O, A, Wt, R, S, Pl, nd, ar, rW, rV) (fun po => wY_step_130 po (nI p) 6 (nI x) (nI a) (nI nP) (nI nW) (nI nD) (nI nL) (nI E) ra cd cx cy ln rg ct K O A Wt R S Pl md li lt) (nI p) 6 (nI x) (nI a) := by
  have hI' := hI
  obtain ⟨⟨s1, s2, s3, s4, s5, s6, s7, s8, s9⟩, h2, h3, h4, h5, h6, h7, h8⟩ := hI'
  have hvp := vp_in_nI (n := p) (N := 4) (by omega) (by decide)
  have Hq1 : so_Bq E (upd K E 6) (upd O E (nI p)) (upd A E (nI a)) (upd Wt E (rg (p * 4 + x))) (upd md E (-1)) bE bA bV p 0 h s := so_Bq_c so_ue so_ue (fun e he => so_pd_u (by omega)) (fun _ _ => rfl) (fun _ _ => rfl) (fun _ _ => rfl) Hq
  have Hw1 : so_Wr E (upd K E 6) (upd A E (nI a)) (upd Wt E (rg (p * 4 + x))) (upd md E (-1)) a (wr a) (wd a) := so_Wr_c so_ue so_ue so_ue so_ue (h7 a ha)
  have hG1 : so_cnt (so_mk (upd md E (-1))) E 0 = G := by
    rw [so_cnt_c (g := so_mk md) E 0 (fun j _ hj => so_mk_u (by omega)), ← h5.1]
  have hz2 : (wr a = -1 ∧ wd a = 0) ∨ ∃ i, i < E ∧ wr a = nI i ∧ wd a = upd Wt E (rg (p * 4 + x)) i := by
    rcases Hw1 with ⟨e1, e2, _⟩ | ⟨i, e1, e2, e3, _⟩
    · exact Or.inl ⟨e1, e2⟩
    · exact Or.inr ⟨i, e1, e2, e3⟩
  refine ⟨(nI nP, nI nW, nI nD, nI nL, nI (E + 1), nI (G + 1), ra, ac, cd, cx, cy, ln, upd rg (p * 4 + x) (wd a), upd ct p (nI (c + 1)), bE, bA, bV, hea, pn, upd wd a (rg (p * 4 + x)), upd wr a (nI E), upd K E 6, upd O E (nI p), upd A E (nI a), upd Wt E (rg (p * 4 + x)), upd R E (wd a), upd S E (wr a), upd Pl E (nI G), nd, ar, rW, rV), (nI nP, nI nW, nI nD, nI nL, nI (E + 1), ra, cd, cx, cy, ln, upd rg (p * 4 + x) (wd a), upd ct p (nI (c + 1)), upd K E 6, upd O E (nI p), upd A E (nI a), upd Wt E (rg (p * 4 + x)), upd R E (wd a), upd S E (wr a), upd Pl E (nI G), upd md E (nI G), li, lt), so_mkR (so_I_ct (by omega) (so_I_6 hL ha hI)), fun po hpo => so_xe6 (by omega) (by omega) (by omega) hx hct hpo, fun po hpo => so_yem (by omega) hct (by decide) (by decide) (by decide) (so_ym6 (by omega) (by omega) (so_y123 (by omega) (by omega) (fun po' hpo' => so_ysn (by omega) Hq1 Hw1 (Or.inl ⟨fun k hk => by omega, rfl⟩) hpo') hG1 hz2 ?_))⟩
  dsimp only
  simp only [so_uu]
  exact ⟨hvp, nm_e hpo⟩
theorem so_ops {op x y : Int32} (hI : so_I nP nW nD nL E G ra cd cx cy ln ct bE bA bV hea pn wd wr K O A Wt S Pl md) (hp : p < nP) (hct : ct p = nI c) (hc : c < 16) (hn : n ≤ nD) (hh : h < 4) (hpn : pn p = nI n) (hhe : hea p = nI h) (Hq : so_Bq E K O A Wt md bE bA bV p n h s) (hin : so_In nW op x y) (q : so_ref op E nL n nD = 0) : so_ex (nI nP, nI nW, nI nD, nI nL, nI E, nI G, ra, ac, cd, cx, cy, ln, rg, ct, bE, bA, bV, hea, pn, wd, wr, K, O, A, Wt, R, S, Pl, nd, ar, rW, rV) (fun po => wY_step_130 po (nI p) op x y (nI nP) (nI nW) (nI nD) (nI nL) (nI E) ra cd cx cy ln rg ct K O A Wt R S Pl md li lt) (nI p) op x y := by
  have hI' := hI
  obtain ⟨⟨s1, s2, s3, s4, s5, s6, s7, s8, s9⟩, _⟩ := hI'
  rcases hin with ⟨rfl, ⟨x, hx, rfl⟩⟩ | ⟨rfl, ⟨x, hx, rfl⟩, ⟨y, hy, rfl⟩⟩ | ⟨rfl, ⟨x, hx, rfl⟩, ⟨y, hy, rfl⟩⟩ | ⟨rfl | rfl | rfl, ⟨x, hx, rfl⟩, ⟨y, hy, rfl⟩⟩ | rfl
  · exact so_o0 hI (by omega) hx hct hc
  · exact so_o1 hI (by omega) hx hy hct hc
  · exact so_o2 hI (by omega) hx hy hct hc
  · exact so_o3 hI hp hy hx hct hc (so_ref_L s8 s7 q (by decide)) (by omega) hh hpn hhe Hq
  · exact so_o4 hI hp hy hx hct hc (so_ref_L s8 s7 q (by decide)) (so_ref_4 hn s6 q) hh hpn hhe Hq
  · obtain rfl := so_ref_5 (by omega) (Or.inr rfl) q
    exact so_o6 hI hp hy hx hct hc (so_ref_L s8 s7 q (by decide)) hh hpn hhe Hq
  · exact so_o5 hI hp hct hc (so_ref_L s8 s7 q (by decide))
/-- one call of a method that stores: one answer, related states -/
def so_both (X : (Int32 → SX → Prop) → Prop) (Y : (Int32 → SY → Prop) → Prop) : Prop :=
  ∃ (r : Int32) (u' : SX) (v' : SY), so_Rel u' v' ∧ (∀ po : Int32 → SX → Prop, po r u' → X po) ∧ (∀ po : Int32 → SY → Prop, po r v' → Y po)
theorem so_step (hI : so_I nP nW nD nL E G ra cd cx cy ln ct bE bA bV hea pn wd wr K O A Wt S Pl md) (pv : Int32) : so_both (fun po => wpX_step po (nI nP, nI nW, nI nD, nI nL, nI E, nI G, ra, ac, cd, cx, cy, ln, rg, ct, bE, bA, bV, hea, pn, wd, wr, K, O, A, Wt, R, S, Pl, nd, ar, rW, rV) pv) (fun po => wpY_step po (nI nP, nI nW, nI nD, nI nL, nI E, ra, cd, cx, cy, ln, rg, ct, K, O, A, Wt, R, S, Pl, md, li, lt) pv) := by
  have hI' := hI
  obtain ⟨⟨s1, s2, s3, s4, s5, s6, s7, s8, s9⟩, h2, h3, h4, h5, h6, h7, h8⟩ := hI'
  have bad : pv < 0 ∨ nI nP ≤ pv → so_both (fun po => wpX_step po (nI nP, nI nW, nI nD, nI nL, nI E, nI G, ra, ac, cd, cx, cy, ln, rg, ct, bE, bA, bV, hea, pn, wd, wr, K, O, A, Wt, R, S, Pl, nd, ar, rW, rV) pv) (fun po => wpY_step po (nI nP, nI nW, nI nD, nI nL, nI E, ra, cd, cx, cy, ln, rg, ct, K, O, A, Wt, R, S, Pl, md, li, lt) pv) := by
    intro hb
    refine ⟨-2, (nI nP, nI nW, nI nD, nI nL, nI E, nI G, ra, ac, cd, cx, cy, ln, rg, ct, bE, bA, bV, hea, pn, wd, wr, K, O, A, Wt, R, S, Pl, nd, ar, rW, rV), (nI nP, nI nW, nI nD, nI nL, nI E, ra, cd, cx, cy, ln, rg, ct, K, O, A, Wt, R, S, Pl, md, li, lt), so_mkR hI, fun po hpo => ?_, fun po hpo => ?_⟩
    · unfold wpX_step
      dsimp only
      exact so_xP0 hb (br_t rfl hpo)
    · unfold wpY_step
      dsimp only
      by_cases z : pv < 0
      · exact br_t z hpo
      · exact br_f z (br_f (Int32.not_lt.mpr (hb.resolve_left z)) hpo)
  rcases pk_ix pv (n := nP) (by omega) with hb | hb | ⟨p, hp, rfl⟩
  · exact bad (Or.inl hb)
  · exact bad (Or.inr hb)
  · obtain ⟨⟨l, hl, hln, hin⟩, ⟨c, hc, hct⟩⟩ := h3 p hp
    obtain ⟨n, h, s, hn, hh, hpn, hhe, Hq⟩ := h8 p hp
    have hpd : ∀ post : Int32 → Prop, post (nI n) → wpY_pending post (nI nP, nI nW, nI nD, nI nL, nI E, ra, cd, cx, cy, ln, rg, ct, K, O, A, Wt, R, S, Pl, md, li, lt) (nI p) := fun post hpo => so_ypn (by omega) Hq hpo
    by_cases hcl : c < l
    · by_cases q : so_ref (cd (p * 16 + c)) E nL n nD = 0
      · obtain ⟨u', v', hR, hX, hY⟩ := so_ops hI hp hct (by omega) hn hh hpn hhe Hq (hin c hcl) q
        exact ⟨0, u', v', hR, fun po hpo => so_xsp s2 hp hct hln hcl hl hpn (fun _ => hX) (fun _ => hpo) (fun z => absurd q z), fun po hpo => so_ysp s2 hp hct hln hcl hl hpd (fun _ => hY po hpo) (fun z => absurd q z)⟩
      · exact ⟨_, (nI nP, nI nW, nI nD, nI nL, nI E, nI G, ra, ac, cd, cx, cy, ln, rg, ct, bE, bA, bV, hea, pn, wd, wr, K, O, A, Wt, R, S, Pl, nd, ar, rW, rV), (nI nP, nI nW, nI nD, nI nL, nI E, ra, cd, cx, cy, ln, rg, ct, K, O, A, Wt, R, S, Pl, md, li, lt), so_mkR hI, fun po hpo => so_xsp (u' := (nI nP, nI nW, nI nD, nI nL, nI E, nI G, ra, ac, cd, cx, cy, ln, rg, ct, bE, bA, bV, hea, pn, wd, wr, K, O, A, Wt, R, S, Pl, nd, ar, rW, rV)) s2 hp hct hln hcl hl hpn (fun z => absurd z q) (fun z => absurd z q) (fun _ => hpo), fun po hpo => so_ysp s2 hp hct hln hcl hl hpd (fun z => absurd z q) (fun _ => hpo)⟩
    · have cp := so_cl (e := p) (by omega)
      have hvp := vp_in_nI (n := p) (N := 4) (by omega) (by decide)
      refine ⟨-7, (nI nP, nI nW, nI nD, nI nL, nI E, nI G, ra, ac, cd, cx, cy, ln, rg, ct, bE, bA, bV, hea, pn, wd, wr, K, O, A, Wt, R, S, Pl, nd, ar, rW, rV), (nI nP, nI nW, nI nD, nI nL, nI E, ra, cd, cx, cy, ln, rg, ct, K, O, A, Wt, R, S, Pl, md, li, lt), so_mkR hI, fun po hpo => ?_, fun po hpo => ?_⟩
      · unfold wpX_step
        dsimp only
        rw [cp, hct, hln]
        exact so_xP1 hp s2 (br_f (by decide) ⟨hvp, hvp, br_f (nI_nlt (by omega) (by omega)) hpo⟩)
      · unfold wpY_step
        dsimp only
        rw [cp, hct, hln]
        exact br_f (nI_pos (by omega)) (br_t (nI_lt hp (by omega)) ⟨hvp, hvp, br_f (nI_nlt (by omega) (by omega)) hpo⟩)
end
end
section
/-! ===== drain, settle, run ===== -/
section
variable {nP nW nD nL E G : Nat} {ra ac : Int32} {cd cx cy ln rg ct bE bA bV hea pn wd wr K O A Wt R S Pl nd ar rW rV md li lt : Nat → Int32}
variable {p : Nat}
theorem so_yd0 {post : Int32 → SY → Prop} (hE : E ≤ 24) (hn : ∀ e, e < E → so_pd K O md p e = false) (h : post (-10) (nI nP, nI nW, nI nD, nI nL, nI E, ra, cd, cx, cy, ln, rg, ct, K, O, A, Wt, R, S, Pl, md, li, lt)) : ∀ (k i n : Nat), i + k = E → k < n → wY_drain_17 post (nI p) (nI nP) (nI nW) (nI nD) (nI nL) (nI E) ra cd cx cy ln rg ct K O A Wt R S Pl md li lt n (nI i) := by
  intro k
  induction k with
  | zero =>
    intro i n hi hk
    obtain ⟨m', rfl⟩ : ∃ m, n = m + 1 := ⟨n - 1, by omega⟩
    obtain rfl : i = E := by omega
    exact br_t (nI_le (Nat.le_refl _) (by omega)) h
  | succ k ih =>
    intro i n hi hk
    obtain ⟨m', rfl⟩ : ∃ m, n = m + 1 := ⟨n - 1, by omega⟩
    rw [wY_drain_17]
    dsimp only
    refine br_f (nI_ge (by omega) (by omega)) (so_ypd (by omega) (so_br (fun q => nm_r (nI_1 i) (ih (i + 1) m' (by omega) (by omega))) (fun q => ?_)))
    rw [hn i (by omega)] at q
    exact absurd q (by decide)
theorem so_yd1 {post : Int32 → SY → Prop} {e0 : Nat} (hE : E ≤ 24) (he : e0 < E) (hn : ∀ e, e < e0 → so_pd K O md p e = false) (hp : so_pd K O md p e0 = true) (hG : so_cnt (so_mk md) E 0 = G) (h : post 0 (nI nP, nI nW, nI nD, nI nL, nI E, ra, cd, cx, cy, ln, rg, ct, K, O, A, Wt, R, S, upd Pl e0 (nI G), upd md e0 (nI G), li, lt)) : ∀ (k i n : Nat), i + k = e0 → k < n → wY_drain_17 post (nI p) (nI nP) (nI nW) (nI nD) (nI nL) (nI E) ra cd cx cy ln rg ct K O A Wt R S Pl md li lt n (nI i) := by
  intro k
  induction k with
  | zero =>
    intro i n hi hk
    obtain ⟨m', rfl⟩ : ∃ m, n = m + 1 := ⟨n - 1, by omega⟩
    obtain rfl : i = e0 := by omega
    have c := so_cl (e := i) (by omega)
    have hv := vp_in_nI (n := i) (N := 24) (by omega) (by decide)
    rw [wY_drain_17]
    dsimp only
    rw [c]
    refine br_f (nI_ge (by omega) (by omega)) (so_ypd (by omega) (so_br (fun q => ?_) (fun q => so_ygv hE ?_)))
    · rw [hp] at q
      exact absurd q (by decide)
    · rw [hG]
      exact ⟨hv, nm_e ⟨hv, nm_e h⟩⟩
  | succ k ih =>
    intro i n hi hk
    obtain ⟨m', rfl⟩ : ∃ m, n = m + 1 := ⟨n - 1, by omega⟩
    rw [wY_drain_17]
    dsimp only
    refine br_f (nI_ge (by omega) (by omega)) (so_ypd (by omega) (so_br (fun q => nm_r (nI_1 i) (ih (i + 1) m' (by omega) (by omega))) (fun q => ?_)))
    rw [hn i (by omega)] at q
    exact absurd q (by decide)
theorem so_drain (hI : so_I nP nW nD nL E G ra cd cx cy ln ct bE bA bV hea pn wd wr K O A Wt S Pl md) (hp : p < nP) : ∃ n, n ≤ nD ∧ pn p = nI n ∧
    ((n = 0 ∧ (∀ po : Int32 → SX → Prop, po (-10) (nI nP, nI nW, nI nD, nI nL, nI E, nI G, ra, ac, cd, cx, cy, ln, rg, ct, bE, bA, bV, hea, pn, wd, wr, K, O, A, Wt, R, S, Pl, nd, ar, rW, rV) → wpX_drain po (nI nP, nI nW, nI nD, nI nL, nI E, nI G, ra, ac, cd, cx, cy, ln, rg, ct, bE, bA, bV, hea, pn, wd, wr, K, O, A, Wt, R, S, Pl, nd, ar, rW, rV) (nI p)) ∧ (∀ po : Int32 → SY → Prop, po (-10) (nI nP, nI nW, nI nD, nI nL, nI E, ra, cd, cx, cy, ln, rg, ct, K, O, A, Wt, R, S, Pl, md, li, lt) → wpY_drain po (nI nP, nI nW, nI nD, nI nL, nI E, ra, cd, cx, cy, ln, rg, ct, K, O, A, Wt, R, S, Pl, md, li, lt) (nI p))) ∨
     ∃ (m G' : Nat) (wd' wr' Pl' md' hea' pn' : Nat → Int32), n = m + 1 ∧ pn' p = nI m ∧ so_I nP nW nD nL E G' ra cd cx cy ln ct bE bA bV hea' pn' wd' wr' K O A Wt S Pl' md' ∧
       (∀ po : Int32 → SX → Prop, po 0 (nI nP, nI nW, nI nD, nI nL, nI E, nI G', ra, ac, cd, cx, cy, ln, rg, ct, bE, bA, bV, hea', pn', wd', wr', K, O, A, Wt, R, S, Pl', nd, ar, rW, rV) → wpX_drain po (nI nP, nI nW, nI nD, nI nL, nI E, nI G, ra, ac, cd, cx, cy, ln, rg, ct, bE, bA, bV, hea, pn, wd, wr, K, O, A, Wt, R, S, Pl, nd, ar, rW, rV) (nI p)) ∧ (∀ po : Int32 → SY → Prop, po 0 (nI nP, nI nW, nI nD, nI nL, nI E, ra, cd, cx, cy, ln, rg, ct, K, O, A, Wt, R, S, Pl', md', li, lt) → wpY_drain po (nI nP, nI nW, nI nD, nI nL, nI E, ra, cd, cx, cy, ln, rg, ct, K, O, A, Wt, R, S, Pl, md, li, lt) (nI p))) := by
  have hI' := hI
  obtain ⟨⟨s1, s2, s3, s4, s5, s6, s7, s8, s9⟩, h2, h3, h4, h5, h6, h7, h8⟩ := hI'
  obtain ⟨n, h, s, hn, hh, hpn, hhe, Hq⟩ := h8 p hp
  have cp := so_cl (e := p) (by omega)
  have hvp := vp_in_nI (n := p) (N := 4) (by omega) (by decide)
  refine ⟨n, hn, hpn, ?_⟩
  cases n with
  | zero =>
    refine Or.inl ⟨rfl, fun po hpo => ?_, fun po hpo => ?_⟩
    · unfold wpX_drain
      dsimp only
      rw [cp, hpn]
      exact so_xP1 hp s2 (br_f (by decide) ⟨hvp, br_t rfl hpo⟩)
    · unfold wpY_drain
      dsimp only
      refine br_f (nI_pos (by omega)) (br_t (nI_lt hp (by omega)) ⟨E + 1, so_yd0 (by omega) (fun e he => ?_) hpo E 0 (E + 1) (by omega) (by omega)⟩)
      cases q : so_pd K O md p e
      · rfl
      · obtain ⟨k, hk, _⟩ := Hq.2.2.1 e he q
        omega
  | succ m =>
    have Hq' := Hq
    obtain ⟨g1, g2, g3, g4⟩ := Hq'
    obtain ⟨e1, e2, e3, e4⟩ := g1 0 (by omega)
    have hpd := g4 0 (by omega)
    have hK : K (s 0) = 4 := by
      have : K (s 0) = 4 ∧ O (s 0) = nI p ∧ md (s 0) < 0 := by simpa [so_pd] using hpd
      exact this.1
    obtain ⟨a, ha, hA⟩ := (h4 (s 0) e1).2.1 (by rw [hK]; decide)
    rw [Nat.add_zero, Nat.mod_eq_of_lt hh] at e2 e3 e4
    rw [hA] at e3
    refine Or.inr ⟨m, G + 1, upd wd a (Wt (s 0)), upd wr a (nI (s 0)), upd Pl (s 0) (nI G), upd md (s 0) (nI G), upd hea p (nI ((h + 1) % 4)), upd pn p (nI m), rfl, pk_us, so_I_d hp hh hpn hhe hn ha hA Hq hI, fun po hpo => ?_, fun po hpo => ?_⟩
    · have ca := so_cl (e := a) (by omega)
      have cs := so_cl (e := p * 4 + h) (by omega)
      have ce := so_cl (e := s 0) (by omega)
      have hva := vp_in_nI (n := a) (N := 8) (by omega) (by decide)
      have hvs := vp_in_nI (n := p * 4 + h) (N := 16) (by omega) (by decide)
      unfold wpX_drain
      dsimp only
      rw [cp, hpn, hhe, so_i4]
      refine so_xP1 hp s2 (br_f (by decide) ⟨hvp, br_f (nI_ne0 (by omega) (by omega)) ⟨hvp, nm_e ?_⟩⟩)
      rw [cs, e2, e3, e4]
      refine ⟨hvs, nm_e ⟨hvs, nm_e ⟨hvs, hva, nm_e ⟨hva, nm_e (so_xgp (by omega) ?_)⟩⟩⟩⟩
      dsimp only
      rw [ca, hhe, nI_1, so_m4 (by omega), hpn, nI_pred]
      exact ⟨hvp, hvp, nm_e ⟨hvp, hvp, nm_e hpo⟩⟩
    · unfold wpY_drain
      dsimp only
      refine br_f (nI_pos (by omega)) (br_t (nI_lt hp (by omega)) ⟨E + 1, so_yd1 (by omega) e1 (fun e he => ?_) hpd h5.1.symm hpo (s 0) 0 (E + 1) (by omega) (by omega)⟩)
      cases q : so_pd K O md p e
      · rfl
      · obtain ⟨k, hk, hs⟩ := g3 e (by omega) q
        have : ¬ 0 < k := by
          intro z
          have := g2 0 k z hk
          omega
        have hk0 : k = 0 := by omega
        rw [hk0] at hs
        omega
/-- all stores of p leave the buffer -/
theorem so_set1 (p m : Nat) : ∀ {nP nW nD nL E G : Nat} {ra ac : Int32} {cd cx cy ln rg ct bE bA bV hea pn wd wr K O A Wt R S Pl nd ar rW rV md li lt : Nat → Int32}, so_I nP nW nD nL E G ra cd cx cy ln ct bE bA bV hea pn wd wr K O A Wt S Pl md → p < nP → pn p = nI m → m ≤ 4 →
    ∃ (G' : Nat) (wd' wr' Pl' md' hea' pn' : Nat → Int32), so_I nP nW nD nL E G' ra cd cx cy ln ct bE bA bV hea' pn' wd' wr' K O A Wt S Pl' md' ∧
      (∀ (post : Int32 → SX → Prop) (n4 n i t : Nat), m < n → i + m ≤ 4 → wX_settle_4 post n4 (nI (t + m)) (nI (p + 1)) (nI nP) (nI nW) (nI nD) (nI nL) (nI E) (nI G') ra ac cd cx cy ln rg ct bE bA bV hea' pn' wd' wr' K O A Wt R S Pl' nd ar rW rV → wX_settle_22 post (wX_settle_4 post n4) (nI p) (nI (i + m)) n (nI t) (nI i) (nI nP) (nI nW) (nI nD) (nI nL) (nI E) (nI G) ra ac cd cx cy ln rg ct bE bA bV hea pn wd wr K O A Wt R S Pl nd ar rW rV) ∧
      (∀ (post : Int32 → SY → Prop) (n4 n j t : Nat), nD < n + j → j + m ≤ nD → wY_settle_4 post n4 (nI (t + m)) (nI (p + 1)) (nI nP) (nI nW) (nI nD) (nI nL) (nI E) ra cd cx cy ln rg ct K O A Wt R S Pl' md' li lt → wY_settle_14 post (wY_settle_4 post n4) (nI p) n (nI t) (nI j) (nI nP) (nI nW) (nI nD) (nI nL) (nI E) ra cd cx cy ln rg ct K O A Wt R S Pl md li lt) := by
  induction m with
  | zero =>
    intro nP nW nD nL E G ra ac cd cx cy ln rg ct bE bA bV hea pn wd wr K O A Wt R S Pl nd ar rW rV md li lt hI hp hpn _
    obtain ⟨⟨s1, s2, s3, s4, s5, s6, s7, s8, s9⟩, _⟩ := id hI
    refine ⟨G, wd, wr, Pl, md, hea, pn, hI, fun post n4 n i t hn hi hJ => ?_, ?_⟩
    · obtain ⟨m', rfl⟩ : ∃ m, n = m + 1 := ⟨n - 1, by omega⟩
      exact br_t (nI_le (by omega) (by omega)) (nm_r (nI_1 p) hJ)
    · intro post n4 n j t hn hj hJ
      have key : ∀ k j n, j + k = nD → k < n → wY_settle_14 post (wY_settle_4 post n4) (nI p) n (nI t) (nI j) (nI nP) (nI nW) (nI nD) (nI nL) (nI E) ra cd cx cy ln rg ct K O A Wt R S Pl md li lt := by
        intro k
        induction k with
        | zero =>
          intro j n hj hn
          obtain ⟨m', rfl⟩ : ∃ m, n = m + 1 := ⟨n - 1, by omega⟩
          exact br_t (nI_le (by omega) (by omega)) (nm_r (nI_1 p) hJ)
        | succ k ih =>
          intro j n hj hn
          obtain ⟨m', rfl⟩ : ∃ m, n = m + 1 := ⟨n - 1, by omega⟩
          obtain ⟨n0, g1, g2, g3⟩ := so_drain (nP := nP) (nW := nW) (nD := nD) (nL := nL) (E := E) (G := G) (ra := ra) (ac := ac) (cd := cd) (cx := cx) (cy := cy) (ln := ln) (rg := rg) (ct := ct) (bE := bE) (bA := bA) (bV := bV) (hea := hea) (pn := pn) (wd := wd) (wr := wr) (K := K) (O := O) (A := A) (Wt := Wt) (R := R) (S := S) (Pl := Pl) (nd := nd) (ar := ar) (rW := rW) (rV := rV) (md := md) (li := li) (lt := lt) hI hp
          have hn0 : n0 = 0 := so_inj (by omega) (by omega) (g2.symm.trans hpn)
          rcases g3 with ⟨_, _, hY⟩ | ⟨m0, _, _, _, _, _, _, _, e, _⟩
          · rw [wY_settle_14]
            dsimp only
            refine br_f (nI_ge (by omega) (by omega)) (hY _ ?_)
            dsimp only
            exact br_f (by decide) (nm_r (nI_1 j) (ih (j + 1) m' (by omega) (by omega)))
          · omega
      exact key (nD - j) j n (by omega) (by omega)
  | succ m ih =>
    intro nP nW nD nL E G ra ac cd cx cy ln rg ct bE bA bV hea pn wd wr K O A Wt R S Pl nd ar rW rV md li lt hI hp hpn hm
    obtain ⟨⟨s1, s2, s3, s4, s5, s6, s7, s8, s9⟩, _⟩ := id hI
    obtain ⟨n0, g1, g2, g3⟩ := so_drain (nP := nP) (nW := nW) (nD := nD) (nL := nL) (E := E) (G := G) (ra := ra) (ac := ac) (cd := cd) (cx := cx) (cy := cy) (ln := ln) (rg := rg) (ct := ct) (bE := bE) (bA := bA) (bV := bV) (hea := hea) (pn := pn) (wd := wd) (wr := wr) (K := K) (O := O) (A := A) (Wt := Wt) (R := R) (S := S) (Pl := Pl) (nd := nd) (ar := ar) (rW := rW) (rV := rV) (md := md) (li := li) (lt := lt) hI hp
    have hn0 : n0 = m + 1 := so_inj (by omega) (by omega) (g2.symm.trans hpn)
    rcases g3 with ⟨e, _⟩ | ⟨m0, G1, wd1, wr1, Pl1, md1, hea1, pn1, e, hpn1, hI1, hX, hY⟩
    · omega
    · obtain rfl : m0 = m := by omega
      obtain ⟨G', wd', wr', Pl', md', hea', pn', hI2, hX2, hY2⟩ := ih (nP := nP) (nW := nW) (nD := nD) (nL := nL) (E := E) (G := G1) (ra := ra) (ac := ac) (cd := cd) (cx := cx) (cy := cy) (ln := ln) (rg := rg) (ct := ct) (bE := bE) (bA := bA) (bV := bV) (hea := hea1) (pn := pn1) (wd := wd1) (wr := wr1) (K := K) (O := O) (A := A) (Wt := Wt) (R := R) (S := S) (Pl := Pl1) (nd := nd) (ar := ar) (rW := rW) (rV := rV) (md := md1) (li := li) (lt := lt) hI1 hp hpn1 (by omega)
      refine ⟨G', wd', wr', Pl', md', hea', pn', hI2, fun post n4 n i t hn hi hJ => ?_, fun post n4 n j t hn hj hJ => ?_⟩
      · obtain ⟨m', rfl⟩ : ∃ m, n = m + 1 := ⟨n - 1, by omega⟩
        rw [wX_settle_22]
        dsimp only
        refine br_f (nI_ge (by omega) (by omega)) (hX _ ?_)
        dsimp only
        rw [show i + (m0 + 1) = i + 1 + m0 by omega]
        rw [show t + (m0 + 1) = t + 1 + m0 by omega] at hJ
        exact nm_r (nI_1 t) (nm_r (nI_1 i) (hX2 post n4 m' (i + 1) (t + 1) (by omega) (by omega) hJ))
      · obtain ⟨m', rfl⟩ : ∃ m, n = m + 1 := ⟨n - 1, by omega⟩
        rw [wY_settle_14]
        dsimp only
        refine br_f (nI_ge (by omega) (by omega)) (hY _ ?_)
        dsimp only
        rw [show t + (m0 + 1) = t + 1 + m0 by omega] at hJ
        exact br_t rfl (nm_r (nI_1 t) (nm_r (nI_1 j) (hY2 post n4 m' (j + 1) (t + 1) (by omega) (by omega) hJ)))
theorem so_set2 (k : Nat) : ∀ {nP nW nD nL E G : Nat} {ra ac : Int32} {cd cx cy ln rg ct bE bA bV hea pn wd wr K O A Wt R S Pl nd ar rW rV md li lt : Nat → Int32}, so_I nP nW nD nL E G ra cd cx cy ln ct bE bA bV hea pn wd wr K O A Wt S Pl md → ∀ p, p + k = nP →
    ∃ (T G' : Nat) (wd' wr' Pl' md' hea' pn' : Nat → Int32), so_I nP nW nD nL E G' ra cd cx cy ln ct bE bA bV hea' pn' wd' wr' K O A Wt S Pl' md' ∧
      (∀ (post : Int32 → SX → Prop) (n t : Nat), k < n → post (nI (t + T)) (nI nP, nI nW, nI nD, nI nL, nI E, nI G', ra, ac, cd, cx, cy, ln, rg, ct, bE, bA, bV, hea', pn', wd', wr', K, O, A, Wt, R, S, Pl', nd, ar, rW, rV) → wX_settle_4 post n (nI t) (nI p) (nI nP) (nI nW) (nI nD) (nI nL) (nI E) (nI G) ra ac cd cx cy ln rg ct bE bA bV hea pn wd wr K O A Wt R S Pl nd ar rW rV) ∧
      (∀ (post : Int32 → SY → Prop) (n t : Nat), k < n → post (nI (t + T)) (nI nP, nI nW, nI nD, nI nL, nI E, ra, cd, cx, cy, ln, rg, ct, K, O, A, Wt, R, S, Pl', md', li, lt) → wY_settle_4 post n (nI t) (nI p) (nI nP) (nI nW) (nI nD) (nI nL) (nI E) ra cd cx cy ln rg ct K O A Wt R S Pl md li lt) := by
  induction k with
  | zero =>
    intro nP nW nD nL E G ra ac cd cx cy ln rg ct bE bA bV hea pn wd wr K O A Wt R S Pl nd ar rW rV md li lt hI p hp
    obtain ⟨⟨s1, s2, s3, s4, s5, s6, s7, s8, s9⟩, _⟩ := id hI
    refine ⟨0, G, wd, wr, Pl, md, hea, pn, hI, fun post n t hn hpo => ?_, fun post n t hn hpo => ?_⟩
    · obtain ⟨m', rfl⟩ : ∃ m, n = m + 1 := ⟨n - 1, by omega⟩
      exact br_t (nI_le (by omega) (by omega)) hpo
    · obtain ⟨m', rfl⟩ : ∃ m, n = m + 1 := ⟨n - 1, by omega⟩
      exact br_t (nI_le (by omega) (by omega)) hpo
  | succ k ih =>
    intro nP nW nD nL E G ra ac cd cx cy ln rg ct bE bA bV hea pn wd wr K O A Wt R S Pl nd ar rW rV md li lt hI p hp
    obtain ⟨⟨s1, s2, s3, s4, s5, s6, s7, s8, s9⟩, h2, h3, h4, h5, h6, h7, h8⟩ := id hI
    obtain ⟨n0, h, s, hn, hh, hpn, hhe, Hq⟩ := h8 p (by omega)
    have cp := so_cl (e := p) (by omega)
    have hvp := vp_in_nI (n := p) (N := 4) (by omega) (by decide)
    obtain ⟨G1, wd1, wr1, Pl1, md1, hea1, pn1, hI1, hX1, hY1⟩ := so_set1 p n0 (nP := nP) (nW := nW) (nD := nD) (nL := nL) (E := E) (G := G) (ra := ra) (ac := ac) (cd := cd) (cx := cx) (cy := cy) (ln := ln) (rg := rg) (ct := ct) (bE := bE) (bA := bA) (bV := bV) (hea := hea) (pn := pn) (wd := wd) (wr := wr) (K := K) (O := O) (A := A) (Wt := Wt) (R := R) (S := S) (Pl := Pl) (nd := nd) (ar := ar) (rW := rW) (rV := rV) (md := md) (li := li) (lt := lt) hI (by omega) hpn (by omega)
    obtain ⟨T, G', wd', wr', Pl', md', hea', pn', hI2, hX2, hY2⟩ := ih (nP := nP) (nW := nW) (nD := nD) (nL := nL) (E := E) (G := G1) (ra := ra) (ac := ac) (cd := cd) (cx := cx) (cy := cy) (ln := ln) (rg := rg) (ct := ct) (bE := bE) (bA := bA) (bV := bV) (hea := hea1) (pn := pn1) (wd := wd1) (wr := wr1) (K := K) (O := O) (A := A) (Wt := Wt) (R := R) (S := S) (Pl := Pl1) (nd := nd) (ar := ar) (rW := rW) (rV := rV) (md := md1) (li := li) (lt := lt) hI1 (p + 1) (by omega)
    refine ⟨n0 + T, G', wd', wr', Pl', md', hea', pn', hI2, fun post n t hn hpo => ?_, fun post n t hn hpo => ?_⟩
    · obtain ⟨m', rfl⟩ : ∃ m, n = m + 1 := ⟨n - 1, by omega⟩
      rw [← Nat.add_assoc] at hpo
      rw [wX_settle_4]
      dsimp only
      rw [cp, hpn]
      refine br_f (nI_ge (by omega) (by omega)) ⟨hvp, nm_e ⟨n0 + 1, ?_⟩⟩
      have := hX1 post m' (n0 + 1) 0 t (by omega) (by omega) (hX2 post m' (t + n0) (by omega) hpo)
      rw [Nat.zero_add] at this
      exact this
    · obtain ⟨m', rfl⟩ : ∃ m, n = m + 1 := ⟨n - 1, by omega⟩
      rw [← Nat.add_assoc] at hpo
      rw [wY_settle_4]
      dsimp only
      exact br_f (nI_ge (by omega) (by omega)) ⟨nD + 1, hY1 post m' (nD + 1) 0 t (by omega) (by omega) (hY2 post m' (t + n0) (by omega) hpo)⟩
theorem so_settle (hI : so_I nP nW nD nL E G ra cd cx cy ln ct bE bA bV hea pn wd wr K O A Wt S Pl md) : so_both (fun po => wpX_settle po (nI nP, nI nW, nI nD, nI nL, nI E, nI G, ra, ac, cd, cx, cy, ln, rg, ct, bE, bA, bV, hea, pn, wd, wr, K, O, A, Wt, R, S, Pl, nd, ar, rW, rV)) (fun po => wpY_settle po (nI nP, nI nW, nI nD, nI nL, nI E, ra, cd, cx, cy, ln, rg, ct, K, O, A, Wt, R, S, Pl, md, li, lt)) := by
  obtain ⟨T, G', wd', wr', Pl', md', hea', pn', hI2, hX2, hY2⟩ := so_set2 nP (nP := nP) (nW := nW) (nD := nD) (nL := nL) (E := E) (G := G) (ra := ra) (ac := ac) (cd := cd) (cx := cx) (cy := cy) (ln := ln) (rg := rg) (ct := ct) (bE := bE) (bA := bA) (bV := bV) (hea := hea) (pn := pn) (wd := wd) (wr := wr) (K := K) (O := O) (A := A) (Wt := Wt) (R := R) (S := S) (Pl := Pl) (nd := nd) (ar := ar) (rW := rW) (rV := rV) (md := md) (li := li) (lt := lt) hI 0 (by omega)
  refine ⟨nI (0 + T), (nI nP, nI nW, nI nD, nI nL, nI E, nI G', ra, ac, cd, cx, cy, ln, rg, ct, bE, bA, bV, hea', pn', wd', wr', K, O, A, Wt, R, S, Pl', nd, ar, rW, rV), (nI nP, nI nW, nI nD, nI nL, nI E, ra, cd, cx, cy, ln, rg, ct, K, O, A, Wt, R, S, Pl', md', li, lt), so_mkR hI2, fun po hpo => ?_, fun po hpo => ?_⟩
  · unfold wpX_settle
    dsimp only
    exact ⟨nP + 1, hX2 po (nP + 1) 0 (by omega) hpo⟩
  · unfold wpY_settle
    dsimp only
    exact ⟨nP + 1, hY2 po (nP + 1) 0 (by omega) hpo⟩
end
def so_RX (post : Int32 → SX → Prop) (pv : Int32) (lim n i : Nat) (u : SX) : Prop := match u with
  | (pc, wc, dp, ls, ev, pg, ra, ac, cd, cx, cy, ln, rg, ct, bE, bA, bV, hea, pn, wd, wr, K, O, A, Wt, R, S, Pl, nd, ar, rW, rV) => wX_run_26 post pv (nI lim) n (nI i) (nI i) pc wc dp ls ev pg ra ac cd cx cy ln rg ct bE bA bV hea pn wd wr K O A Wt R S Pl nd ar rW rV
def so_RY (post : Int32 → SY → Prop) (pv : Int32) (lim n i : Nat) (u : SY) : Prop := match u with
  | (pc, wc, dp, ls, ev, ra, cd, cx, cy, ln, rg, ct, K, O, A, Wt, R, S, Pl, md, li, lt) => wY_run_39 post pv (nI lim) n (nI i) pc wc dp ls ev ra cd cx cy ln rg ct K O A Wt R S Pl md li lt
theorem so_run1 {pv : Int32} {lim : Nat} (hl : lim ≤ 64) (k : Nat) : ∀ (i : Nat) (u : SX) (v : SY), i + k = lim → so_Rel u v →
    ∃ (r : Int32) (u' : SX) (v' : SY), so_Rel u' v' ∧ (∀ (po : Int32 → SX → Prop) (n : Nat), k < n → po r u' → so_RX po pv lim n i u) ∧ (∀ (po : Int32 → SY → Prop) (n : Nat), k < n → po r v' → so_RY po pv lim n i v) := by
  induction k with
  | zero =>
    intro i u v hi hR
    refine so_el (Q := fun u v => ∃ (r : Int32) (u' : SX) (v' : SY), so_Rel u' v' ∧ (∀ (po : Int32 → SX → Prop) (n : Nat), 0 < n → po r u' → so_RX po pv lim n i u) ∧ (∀ (po : Int32 → SY → Prop) (n : Nat), 0 < n → po r v' → so_RY po pv lim n i v)) ?_ hR
    intro nP nW nD nL E G ra ac cd cx cy ln rg ct bE bA bV hea pn wd wr K O A Wt R S Pl nd ar rW rV md li lt hI
    obtain rfl : i = lim := by omega
    refine ⟨nI i, (nI nP, nI nW, nI nD, nI nL, nI E, nI G, ra, ac, cd, cx, cy, ln, rg, ct, bE, bA, bV, hea, pn, wd, wr, K, O, A, Wt, R, S, Pl, nd, ar, rW, rV), (nI nP, nI nW, nI nD, nI nL, nI E, ra, cd, cx, cy, ln, rg, ct, K, O, A, Wt, R, S, Pl, md, li, lt), so_mkR hI, fun po n hn hpo => ?_, fun po n hn hpo => ?_⟩
    · obtain ⟨m', rfl⟩ : ∃ m, n = m + 1 := ⟨n - 1, by omega⟩
      exact br_t (nI_le (Nat.le_refl _) (by omega)) hpo
    · obtain ⟨m', rfl⟩ : ∃ m, n = m + 1 := ⟨n - 1, by omega⟩
      exact br_t (nI_le (Nat.le_refl _) (by omega)) hpo
  | succ k ih =>
    intro i u v hi hR
    refine so_el (Q := fun u v => ∃ (r : Int32) (u' : SX) (v' : SY), so_Rel u' v' ∧ (∀ (po : Int32 → SX → Prop) (n : Nat), k + 1 < n → po r u' → so_RX po pv lim n i u) ∧ (∀ (po : Int32 → SY → Prop) (n : Nat), k + 1 < n → po r v' → so_RY po pv lim n i v)) ?_ hR
    intro nP nW nD nL E G ra ac cd cx cy ln rg ct bE bA bV hea pn wd wr K O A Wt R S Pl nd ar rW rV md li lt hI
    obtain ⟨r1, u1, v1, hR1, hX1, hY1⟩ := so_step (nP := nP) (nW := nW) (nD := nD) (nL := nL) (E := E) (G := G) (ra := ra) (ac := ac) (cd := cd) (cx := cx) (cy := cy) (ln := ln) (rg := rg) (ct := ct) (bE := bE) (bA := bA) (bV := bV) (hea := hea) (pn := pn) (wd := wd) (wr := wr) (K := K) (O := O) (A := A) (Wt := Wt) (R := R) (S := S) (Pl := Pl) (nd := nd) (ar := ar) (rW := rW) (rV := rV) (md := md) (li := li) (lt := lt) hI pv
    obtain ⟨b1, b2, b3, b4, b5, b6, b7, b8, b9, b10, b11, b12, b13, b14, b15, b16, b17, b18, b19, b20, b21, b22, b23, b24, b25, b26, b27, b28, b29, b30, b31, b32⟩ := u1
    obtain ⟨c1, c2, c3, c4, c5, c6, c7, c8, c9, c10, c11, c12, c13, c14, c15, c16, c17, c18, c19, c20, c21, c22⟩ := v1
    by_cases q : r1 = 0
    · obtain ⟨r, u', v', hR2, hX2, hY2⟩ := ih (i + 1) _ _ (by omega) hR1
      refine ⟨r, u', v', hR2, fun po n hn hpo => ?_, fun po n hn hpo => ?_⟩
      · obtain ⟨m', rfl⟩ : ∃ m, n = m + 1 := ⟨n - 1, by omega⟩
        have IH := hX2 po m' (by omega) hpo
        unfold so_RX at IH ⊢
        dsimp only at IH ⊢
        rw [wX_run_26]
        dsimp only
        refine br_f (nI_ge (by omega) (by omega)) (hX1 _ ?_)
        dsimp only
        exact br_t q (nm_r (nI_1 i) (nm_r (nI_1 i) IH))
      · obtain ⟨m', rfl⟩ : ∃ m, n = m + 1 := ⟨n - 1, by omega⟩
        have IH := hY2 po m' (by omega) hpo
        unfold so_RY at IH ⊢
        dsimp only at IH ⊢
        rw [wY_run_39]
        dsimp only
        refine br_f (nI_ge (by omega) (by omega)) (hY1 _ ?_)
        dsimp only
        exact br_t q (nm_r (nI_1 i) IH)
    · refine ⟨nI i, _, _, hR1, fun po n hn hpo => ?_, fun po n hn hpo => ?_⟩
      · obtain ⟨m', rfl⟩ : ∃ m, n = m + 1 := ⟨n - 1, by omega⟩
        unfold so_RX
        dsimp only
        rw [wX_run_26]
        dsimp only
        refine br_f (nI_ge (by omega) (by omega)) (hX1 _ ?_)
        dsimp only
        exact br_f q hpo
      · obtain ⟨m', rfl⟩ : ∃ m, n = m + 1 := ⟨n - 1, by omega⟩
        unfold so_RY
        dsimp only
        rw [wY_run_39]
        dsimp only
        refine br_f (nI_ge (by omega) (by omega)) (hY1 _ ?_)
        dsimp only
        exact br_f q hpo
end
section
/-! ===== the cleared run; the constructors ===== -/
section
variable {nP nW nD nL E G : Nat} {ra ac : Int32} {cd cx cy ln rg ct bE bA bV hea pn wd wr K O A Wt R S Pl nd ar rW rV md li lt : Nat → Int32}
variable {pc wc dp ls ev pg : Int32}
theorem so_c57 {post : SX → Prop} (h : post (pc, wc, dp, ls, 0, 0, 0, ac, cd, cx, cy, ln, rg, ct, bE, bA, bV, hea, pn, so_fill wd 0 8, so_fill wr (-1) 8, K, O, A, Wt, R, S, Pl, nd, ar, rW, rV)) :
    ∀ (k i n : Nat), i + k = 8 → k < n → wX_clearRun_57 post pc wc dp ls ev pg ra ac n (nI i) cd cx cy ln rg ct bE bA bV hea pn (so_fill wd 0 i) (so_fill wr (-1) i) K O A Wt R S Pl nd ar rW rV := by
  intro k
  induction k with
  | zero =>
    intro i n hi hn
    obtain ⟨m', rfl⟩ : ∃ m, n = m + 1 := ⟨n - 1, by omega⟩
    obtain rfl : i = 8 := by omega
    exact br_t (by decide) h
  | succ k ih =>
    intro i n hi hn
    obtain ⟨m', rfl⟩ : ∃ m, n = m + 1 := ⟨n - 1, by omega⟩
    have c := so_cl (e := i) (by omega)
    have hv := vp_in_nI (n := i) (N := 8) (by omega) (by decide)
    rw [wX_clearRun_57]
    dsimp only
    rw [c, so_fill_s, so_fill_s]
    exact br_f (nI_ge (b := 8) (by omega) (by omega)) ⟨hv, nm_e ⟨hv, nm_e (nm_r (nI_1 i) (ih (i + 1) m' (by omega) (by omega)))⟩⟩
theorem so_c23 {post : SX → Prop} (h : ∃ n, wX_clearRun_57 post pc wc dp ls ev pg ra ac n 0 cd cx cy ln rg (so_fill ct 0 4) bE bA bV (so_fill hea 0 4) (so_fill pn 0 4) wd wr K O A Wt R S Pl nd ar rW rV) :
    ∀ (k i n : Nat), i + k = 4 → k < n → wX_clearRun_23 post pc wc dp ls ev pg ra ac n (nI i) cd cx cy ln rg (so_fill ct 0 i) bE bA bV (so_fill hea 0 i) (so_fill pn 0 i) wd wr K O A Wt R S Pl nd ar rW rV := by
  intro k
  induction k with
  | zero =>
    intro i n hi hn
    obtain ⟨m', rfl⟩ : ∃ m, n = m + 1 := ⟨n - 1, by omega⟩
    obtain rfl : i = 4 := by omega
    exact br_t (by decide) h
  | succ k ih =>
    intro i n hi hn
    obtain ⟨m', rfl⟩ : ∃ m, n = m + 1 := ⟨n - 1, by omega⟩
    have c := so_cl (e := i) (by omega)
    have hv := vp_in_nI (n := i) (N := 4) (by omega) (by decide)
    rw [wX_clearRun_23]
    dsimp only
    rw [c, so_fill_s, so_fill_s, so_fill_s]
    exact br_f (nI_ge (b := 4) (by omega) (by omega)) ⟨hv, nm_e ⟨hv, nm_e ⟨hv, nm_e (nm_r (nI_1 i) (ih (i + 1) m' (by omega) (by omega)))⟩⟩⟩
theorem so_c2 {post : SX → Prop} (h : ∃ n, wX_clearRun_23 post pc wc dp ls ev pg ra ac n 0 cd cx cy ln (so_fill rg 0 16) ct bE bA bV hea pn wd wr K O A Wt R S Pl nd ar rW rV) :
    ∀ (k i n : Nat), i + k = 16 → k < n → wX_clearRun_2 post pc wc dp ls ev pg ra ac n (nI i) cd cx cy ln (so_fill rg 0 i) ct bE bA bV hea pn wd wr K O A Wt R S Pl nd ar rW rV := by
  intro k
  induction k with
  | zero =>
    intro i n hi hn
    obtain ⟨m', rfl⟩ : ∃ m, n = m + 1 := ⟨n - 1, by omega⟩
    obtain rfl : i = 16 := by omega
    exact br_t (by decide) h
  | succ k ih =>
    intro i n hi hn
    obtain ⟨m', rfl⟩ : ∃ m, n = m + 1 := ⟨n - 1, by omega⟩
    have c := so_cl (e := i) (by omega)
    have hv := vp_in_nI (n := i) (N := 16) (by omega) (by decide)
    rw [wX_clearRun_2]
    dsimp only
    rw [c, so_fill_s]
    exact br_f (nI_ge (b := 16) (by omega) (by omega)) ⟨hv, nm_e (nm_r (nI_1 i) (ih (i + 1) m' (by omega) (by omega)))⟩
theorem so_xclr {post : SX → Prop} (h : post (pc, wc, dp, ls, 0, 0, 0, ac, cd, cx, cy, ln, so_fill rg 0 16, so_fill ct 0 4, bE, bA, bV, so_fill hea 0 4, so_fill pn 0 4, so_fill wd 0 8, so_fill wr (-1) 8, K, O, A, Wt, R, S, Pl, nd, ar, rW, rV)) : wpX_clearRun post (pc, wc, dp, ls, ev, pg, ra, ac, cd, cx, cy, ln, rg, ct, bE, bA, bV, hea, pn, wd, wr, K, O, A, Wt, R, S, Pl, nd, ar, rW, rV) := by
  unfold wpX_clearRun
  dsimp only
  have k57 : wX_clearRun_57 post pc wc dp ls ev pg ra ac 9 (nI 0) cd cx cy ln (so_fill rg 0 16) (so_fill ct 0 4) bE bA bV (so_fill hea 0 4) (so_fill pn 0 4) (so_fill wd 0 0) (so_fill wr (-1) 0) K O A Wt R S Pl nd ar rW rV := so_c57 h 8 0 9 (by omega) (by omega)
  rw [so_fill_0, so_fill_0] at k57
  have k23 : wX_clearRun_23 post pc wc dp ls ev pg ra ac 5 (nI 0) cd cx cy ln (so_fill rg 0 16) (so_fill ct 0 0) bE bA bV (so_fill hea 0 0) (so_fill pn 0 0) wd wr K O A Wt R S Pl nd ar rW rV := so_c23 ⟨9, k57⟩ 4 0 5 (by omega) (by omega)
  rw [so_fill_0, so_fill_0, so_fill_0] at k23
  have k2 : wX_clearRun_2 post pc wc dp ls ev pg ra ac 17 (nI 0) cd cx cy ln (so_fill rg 0 0) ct bE bA bV hea pn wd wr K O A Wt R S Pl nd ar rW rV := so_c2 ⟨5, k23⟩ 16 0 17 (by omega) (by omega)
  rw [so_fill_0] at k2
  exact ⟨17, k2⟩
theorem so_d23 {post : SY → Prop} (h : post (pc, wc, dp, ls, 0, 0, cd, cx, cy, ln, rg, so_fill ct 0 4, K, O, A, Wt, R, S, Pl, md, li, lt)) :
    ∀ (k i n : Nat), i + k = 4 → k < n → wY_restart_23 post pc wc dp ls ev ra n (nI i) cd cx cy ln rg (so_fill ct 0 i) K O A Wt R S Pl md li lt := by
  intro k
  induction k with
  | zero =>
    intro i n hi hn
    obtain ⟨m', rfl⟩ : ∃ m, n = m + 1 := ⟨n - 1, by omega⟩
    obtain rfl : i = 4 := by omega
    exact br_t (by decide) h
  | succ k ih =>
    intro i n hi hn
    obtain ⟨m', rfl⟩ : ∃ m, n = m + 1 := ⟨n - 1, by omega⟩
    have c := so_cl (e := i) (by omega)
    have hv := vp_in_nI (n := i) (N := 4) (by omega) (by decide)
    rw [wY_restart_23]
    dsimp only
    rw [c, so_fill_s]
    exact br_f (nI_ge (b := 4) (by omega) (by omega)) ⟨hv, nm_e (nm_r (nI_1 i) (ih (i + 1) m' (by omega) (by omega)))⟩
theorem so_d2 {post : SY → Prop} (h : ∃ n, wY_restart_23 post pc wc dp ls ev ra n 0 cd cx cy ln (so_fill rg 0 16) ct K O A Wt R S Pl md li lt) :
    ∀ (k i n : Nat), i + k = 16 → k < n → wY_restart_2 post pc wc dp ls ev ra n (nI i) cd cx cy ln (so_fill rg 0 i) ct K O A Wt R S Pl md li lt := by
  intro k
  induction k with
  | zero =>
    intro i n hi hn
    obtain ⟨m', rfl⟩ : ∃ m, n = m + 1 := ⟨n - 1, by omega⟩
    obtain rfl : i = 16 := by omega
    exact br_t (by decide) h
  | succ k ih =>
    intro i n hi hn
    obtain ⟨m', rfl⟩ : ∃ m, n = m + 1 := ⟨n - 1, by omega⟩
    have c := so_cl (e := i) (by omega)
    have hv := vp_in_nI (n := i) (N := 16) (by omega) (by decide)
    rw [wY_restart_2]
    dsimp only
    rw [c, so_fill_s]
    exact br_f (nI_ge (b := 16) (by omega) (by omega)) ⟨hv, nm_e (nm_r (nI_1 i) (ih (i + 1) m' (by omega) (by omega)))⟩
theorem so_yclr {post : SY → Prop} (h : post (pc, wc, dp, ls, 0, 0, cd, cx, cy, ln, so_fill rg 0 16, so_fill ct 0 4, K, O, A, Wt, R, S, Pl, md, li, lt)) : wpY_restart post (pc, wc, dp, ls, ev, ra, cd, cx, cy, ln, rg, ct, K, O, A, Wt, R, S, Pl, md, li, lt) := by
  unfold wpY_restart
  dsimp only
  have k23 : wY_restart_23 post pc wc dp ls ev ra 5 (nI 0) cd cx cy ln (so_fill rg 0 16) (so_fill ct 0 0) K O A Wt R S Pl md li lt := so_d23 h 4 0 5 (by omega) (by omega)
  rw [so_fill_0] at k23
  have k2 : wY_restart_2 post pc wc dp ls ev ra 17 (nI 0) cd cx cy ln (so_fill rg 0 0) ct K O A Wt R S Pl md li lt := so_d2 ⟨5, k23⟩ 16 0 17 (by omega) (by omega)
  rw [so_fill_0] at k2
  exact ⟨17, k2⟩
theorem so_I_0 (h1 : 1 ≤ nP) (h2 : nP ≤ 4) (h3 : 1 ≤ nW) (h4 : nW ≤ 8) (h5 : 1 ≤ nD) (h6 : nD ≤ 4) (h7 : nL ≤ 24) (hp : ∀ p, p < nP → ∃ l, l ≤ 16 ∧ ln p = nI l ∧ ∀ i, i < l → so_In nW (cd (p * 16 + i)) (cx (p * 16 + i)) (cy (p * 16 + i))) :
    so_I nP nW nD nL 0 0 0 cd cx cy ln (so_fill ct 0 4) bE bA bV (so_fill hea 0 4) (so_fill pn 0 4) (so_fill wd 0 8) (so_fill wr (-1) 8) K O A Wt S Pl md := by
  refine ⟨⟨h1, h2, h3, h4, h5, h6, h7, Nat.zero_le _, Nat.le_refl _⟩, Or.inl rfl, fun p hp' => ⟨hp p hp', 0, by omega, so_fill_in (by omega)⟩, fun e he => by omega, ⟨rfl, fun e he => by omega⟩, ⟨fun _ => 0, fun i hi => by omega, fun e he => by omega⟩, fun a ha => Or.inl ⟨so_fill_in (by omega), so_fill_in (by omega), fun e he => by omega⟩, fun p hp' => ⟨0, 0, fun _ => 0, by omega, by omega, so_fill_in (by omega), so_fill_in (by omega), fun k hk => by omega, fun j k _ hk => by omega, fun e he => by omega, fun k hk => by omega⟩⟩
theorem so_restart (hI : so_I nP nW nD nL E G ra cd cx cy ln ct bE bA bV hea pn wd wr K O A Wt S Pl md) : ∃ (u' : SX) (v' : SY), so_Rel u' v' ∧ (∀ po : SX → Prop, po u' → wpX_restart po (nI nP, nI nW, nI nD, nI nL, nI E, nI G, ra, ac, cd, cx, cy, ln, rg, ct, bE, bA, bV, hea, pn, wd, wr, K, O, A, Wt, R, S, Pl, nd, ar, rW, rV)) ∧ (∀ po : SY → Prop, po v' → wpY_restart po (nI nP, nI nW, nI nD, nI nL, nI E, ra, cd, cx, cy, ln, rg, ct, K, O, A, Wt, R, S, Pl, md, li, lt)) := by
  obtain ⟨⟨s1, s2, s3, s4, s5, s6, s7, s8, s9⟩, h2, h3, h4, h5, h6, h7, h8⟩ := id hI
  refine ⟨(nI nP, nI nW, nI nD, nI nL, 0, 0, 0, ac, cd, cx, cy, ln, so_fill rg 0 16, so_fill ct 0 4, bE, bA, bV, so_fill hea 0 4, so_fill pn 0 4, so_fill wd 0 8, so_fill wr (-1) 8, K, O, A, Wt, R, S, Pl, nd, ar, rW, rV), (nI nP, nI nW, nI nD, nI nL, 0, 0, cd, cx, cy, ln, so_fill rg 0 16, so_fill ct 0 4, K, O, A, Wt, R, S, Pl, md, li, lt), so_mkR (E := 0) (G := 0) (so_I_0 s1 s2 s3 s4 s5 s6 s7 (fun p hp => (h3 p hp).1)), fun po hpo => ?_, fun po hpo => so_yclr hpo⟩
  unfold wpX_restart
  dsimp only
  refine so_xclr ?_
  dsimp only
  exact hpo
end
/-! the constructors -/
def so_cmp (x lo hi : Int32) : Int32 := if lo ≤ x then (if x ≤ hi then x else hi) else lo
theorem so_cb {x lo hi : Int32} (F : Int32 → Prop) (h : F (so_cmp x lo hi)) : (lo ≤ x → ((x ≤ hi → F x) ∧ (¬ x ≤ hi → F hi))) ∧ (¬ lo ≤ x → F lo) := by
  unfold so_cmp at h
  refine br_c (fun q => br_c (fun q2 => ?_) (fun q2 => ?_)) (fun q => ?_)
  · rw [if_pos q, if_pos q2] at h
    exact h
  · rw [if_pos q, if_neg q2] at h
    exact h
  · rw [if_neg q] at h
    exact h
theorem so_xcp {post : Int32 → Prop} {x lo hi : Int32} (u : SX) (h : post (so_cmp x lo hi)) : wpX_clamp post u x lo hi := by
  obtain ⟨b1, b2, b3, b4, b5, b6, b7, b8, b9, b10, b11, b12, b13, b14, b15, b16, b17, b18, b19, b20, b21, b22, b23, b24, b25, b26, b27, b28, b29, b30, b31, b32⟩ := u
  unfold wpX_clamp
  dsimp only
  exact so_cb post h
theorem so_cmp_n (x : Int32) {lo hi : Nat} (h : lo ≤ hi) (hh : hi < 100) : ∃ j, lo ≤ j ∧ j ≤ hi ∧ so_cmp x (nI lo) (nI hi) = nI j := by
  unfold so_cmp
  by_cases q : nI lo ≤ x
  · rw [if_pos q]
    by_cases q2 : x ≤ nI hi
    · rw [if_pos q2]
      have hx : ¬ x < 0 := Int32.not_lt.mpr (Int32.le_trans (nI_pos' (by omega)) q)
      obtain ⟨j, hj, rfl⟩ := nI_of hx
      rw [nI_leI (by omega) hj] at q
      rw [nI_leI hj (by omega)] at q2
      exact ⟨j, q, q2, rfl⟩
    · rw [if_neg q2]
      exact ⟨hi, h, Nat.le_refl _, rfl⟩
  · rw [if_neg q]
    exact ⟨lo, Nat.le_refl _, h, rfl⟩
theorem so_init (k0 k1 k2 k3 : Int32) : wpX_init (fun u => wpY_init (fun v => so_Rel u v) k0 k1 k2 k3) k0 k1 k2 k3 := by
  obtain ⟨nP, p1, p2, e0⟩ := so_cmp_n k0 (lo := 1) (hi := 4) (by omega) (by omega)
  obtain ⟨nW, w1, w2, e1⟩ := so_cmp_n k1 (lo := 1) (hi := 8) (by omega) (by omega)
  obtain ⟨nD, d1, d2, e2⟩ := so_cmp_n k2 (lo := 1) (hi := 4) (by omega) (by omega)
  obtain ⟨nL, l1, l2, e3⟩ := so_cmp_n k3 (lo := 4) (hi := 24) (by omega) (by omega)
  have e0' : so_cmp k0 1 4 = nI nP := e0
  have e1' : so_cmp k1 1 8 = nI nW := e1
  have e2' : so_cmp k2 1 4 = nI nD := e2
  have e3' : so_cmp k3 4 24 = nI nL := e3
  unfold wpX_init
  refine so_xcp _ (so_xcp _ (so_xcp _ (so_xcp _ (so_xclr ?_))))
  dsimp only
  rw [e0', e1', e2', e3']
  have hR : so_Rel (nI nP, nI nW, nI nD, nI nL, 0, 0, 0, 0, fun _ => 0, fun _ => 0, fun _ => 0, fun _ => 0, so_fill (fun _ => 0) 0 16, so_fill (fun _ => 0) 0 4, fun _ => 0, fun _ => 0, fun _ => 0, so_fill (fun _ => 0) 0 4, so_fill (fun _ => 0) 0 4, so_fill (fun _ => 0) 0 8, so_fill (fun _ => 0) (-1) 8, fun _ => 0, fun _ => 0, fun _ => 0, fun _ => 0, fun _ => 0, fun _ => 0, fun _ => 0, fun _ => 0, fun _ => 0, fun _ => 0, fun _ => 0)
      (nI nP, nI nW, nI nD, nI nL, 0, 0, fun _ => 0, fun _ => 0, fun _ => 0, fun _ => 0, so_fill (fun _ => 0) 0 16, so_fill (fun _ => 0) 0 4, fun _ => 0, fun _ => 0, fun _ => 0, fun _ => 0, fun _ => 0, fun _ => 0, fun _ => 0, fun _ => 0, fun _ => 0, fun _ => 0) :=
    so_mkR (E := 0) (G := 0) (so_I_0 p1 p2 w1 w2 d1 d2 l2 (fun p hp => ⟨0, by omega, rfl, fun i hi => by omega⟩))
  rw [so_fill_k, so_fill_k, so_fill_k] at hR
  rw [so_fill_k, so_fill_k, so_fill_k]
  generalize hu : ((nI nP, nI nW, nI nD, nI nL, 0, 0, 0, 0, fun _ => 0, fun _ => 0, fun _ => 0, fun _ => 0, fun _ => 0, fun _ => 0, fun _ => 0, fun _ => 0, fun _ => 0, fun _ => 0, fun _ => 0, fun _ => 0, so_fill (fun _ => 0) (-1) 8, fun _ => 0, fun _ => 0, fun _ => 0, fun _ => 0, fun _ => 0, fun _ => 0, fun _ => 0, fun _ => 0, fun _ => 0, fun _ => 0, fun _ => 0) : SX) = u at hR ⊢
  unfold wpY_init
  refine so_cb (fun z => wY_init_150 (fun v => so_Rel u v) k1 k2 k3 z 0 0 0 0 0 0 (fun _ => 0) (fun _ => 0) (fun _ => 0) (fun _ => 0) (fun _ => 0) (fun _ => 0) (fun _ => 0) (fun _ => 0) (fun _ => 0) (fun _ => 0) (fun _ => 0) (fun _ => 0) (fun _ => 0) (fun _ => 0) (fun _ => 0) (fun _ => 0)) ?_
  rw [e0']
  unfold wY_init_150
  refine so_cb (fun z => wY_init_175 (fun v => so_Rel u v) k2 k3 z (nI nP) 0 0 0 0 0 (fun _ => 0) (fun _ => 0) (fun _ => 0) (fun _ => 0) (fun _ => 0) (fun _ => 0) (fun _ => 0) (fun _ => 0) (fun _ => 0) (fun _ => 0) (fun _ => 0) (fun _ => 0) (fun _ => 0) (fun _ => 0) (fun _ => 0) (fun _ => 0)) ?_
  rw [e1']
  unfold wY_init_175
  refine so_cb (fun z => wY_init_198 (fun v => so_Rel u v) k3 z (nI nP) (nI nW) 0 0 0 0 (fun _ => 0) (fun _ => 0) (fun _ => 0) (fun _ => 0) (fun _ => 0) (fun _ => 0) (fun _ => 0) (fun _ => 0) (fun _ => 0) (fun _ => 0) (fun _ => 0) (fun _ => 0) (fun _ => 0) (fun _ => 0) (fun _ => 0) (fun _ => 0)) ?_
  rw [e2']
  unfold wY_init_198
  refine so_cb (fun z => so_Rel u (nI nP, nI nW, nI nD, z, 0, 0, fun _ => 0, fun _ => 0, fun _ => 0, fun _ => 0, fun _ => 0, fun _ => 0, fun _ => 0, fun _ => 0, fun _ => 0, fun _ => 0, fun _ => 0, fun _ => 0, fun _ => 0, fun _ => 0, fun _ => 0, fun _ => 0)) ?_
  rw [e3']
  exact hR
end
section
/-! ===== addInstruction, exchangePlaces, redirect, revise ===== -/
def so_gy (nW : Nat) (op y : Int32) : Bool :=
  if op = 1 then (!decide (y < 0) && decide (y ≤ 3)) else if op = 2 then (!decide (y < 0) && decide (y ≤ 16)) else if op = 3 ∨ op = 4 ∨ op = 6 then (!decide (y < 0) && decide (y < nI nW)) else true
theorem so_oc {op : Int32} (h0 : ¬ op < 0) (h6 : op ≤ 6) : op = 0 ∨ op = 1 ∨ op = 2 ∨ op = 3 ∨ op = 4 ∨ op = 5 ∨ op = 6 := by
  obtain ⟨j, hj, rfl⟩ := nI_of2 (M := 6) (n := 6) (by decide) h0 h6
  obtain rfl | rfl | rfl | rfl | rfl | rfl | rfl : j = 0 ∨ j = 1 ∨ j = 2 ∨ j = 3 ∨ j = 4 ∨ j = 5 ∨ j = 6 := by omega
  · exact Or.inl rfl
  · exact Or.inr (Or.inl rfl)
  · exact Or.inr (Or.inr (Or.inl rfl))
  · exact Or.inr (Or.inr (Or.inr (Or.inl rfl)))
  · exact Or.inr (Or.inr (Or.inr (Or.inr (Or.inl rfl))))
  · exact Or.inr (Or.inr (Or.inr (Or.inr (Or.inr (Or.inl rfl)))))
  · exact Or.inr (Or.inr (Or.inr (Or.inr (Or.inr (Or.inr rfl)))))
theorem so_rx_of {x : Int32} (h0 : ¬ x < 0) (h3 : x ≤ 3) : so_rx x := by
  obtain ⟨j, hj, rfl⟩ := nI_of2 (M := 3) (n := 3) (by decide) h0 h3
  exact ⟨j, by omega, rfl⟩
theorem so_in_of {nW : Nat} (hW : nW ≤ 8) {op x y : Int32} (ho : op = 0 ∨ op = 1 ∨ op = 2 ∨ op = 3 ∨ op = 4 ∨ op = 5 ∨ op = 6) (hx : op = 5 ∨ so_rx x) (hy : so_gy nW op y = true) : so_In nW op x y := by
  have hA : (!decide (y < 0) && decide (y < nI nW)) = true → ∃ b, b < nW ∧ y = nI b := by
    intro h
    simp only [Bool.and_eq_true, Bool.not_eq_true', decide_eq_true_eq, decide_eq_false_iff_not] at h
    obtain ⟨j, hj, rfl⟩ := nI_of h.1
    rw [nI_ltI hj (by omega)] at h
    exact ⟨j, h.2, rfl⟩
  rcases ho with rfl | rfl | rfl | rfl | rfl | rfl | rfl
  · exact Or.inl ⟨rfl, hx.resolve_left (by decide)⟩
  · have h : (!decide (y < 0) && decide (y ≤ 3)) = true := hy
    simp only [Bool.and_eq_true, Bool.not_eq_true', decide_eq_true_eq, decide_eq_false_iff_not] at h
    exact Or.inr (Or.inl ⟨rfl, hx.resolve_left (by decide), so_rx_of h.1 h.2⟩)
  · have h : (!decide (y < 0) && decide (y ≤ 16)) = true := hy
    simp only [Bool.and_eq_true, Bool.not_eq_true', decide_eq_true_eq, decide_eq_false_iff_not] at h
    obtain ⟨j, hj, e⟩ := nI_of2 (M := 16) (n := 16) (by decide) h.1 h.2
    exact Or.inr (Or.inr (Or.inl ⟨rfl, hx.resolve_left (by decide), j, hj, e⟩))
  · exact Or.inr (Or.inr (Or.inr (Or.inl ⟨Or.inl rfl, hx.resolve_left (by decide), hA hy⟩)))
  · exact Or.inr (Or.inr (Or.inr (Or.inl ⟨Or.inr (Or.inl rfl), hx.resolve_left (by decide), hA hy⟩)))
  · exact Or.inr (Or.inr (Or.inr (Or.inr rfl)))
  · exact Or.inr (Or.inr (Or.inr (Or.inl ⟨Or.inr (Or.inr rfl), hx.resolve_left (by decide), hA hy⟩)))
section
variable {nP nW nD nL E G : Nat} {ra ac : Int32} {cd cx cy ln rg ct bE bA bV hea pn wd wr K O A Wt R S Pl nd ar rW rV md li lt : Nat → Int32}
variable {p l : Nat} {op x y : Int32}
theorem so_xad {post : Int32 → Prop} (h : post (so_b (!decide (y < 0) && decide (y < nI nW)))) : wpX_isAddress post (nI nP, nI nW, nI nD, nI nL, nI E, nI G, ra, ac, cd, cx, cy, ln, rg, ct, bE, bA, bV, hea, pn, wd, wr, K, O, A, Wt, R, S, Pl, nd, ar, rW, rV) y := by
  unfold wpX_isAddress
  dsimp only
  exact br_c (fun q => so_q h (by simp [q])) (fun q => br_c (fun q2 => so_q h (by simp [Int32.not_lt.mpr q2])) (fun q2 => so_p h (by simp [q, Int32.not_le.mp q2])))
theorem so_xgy {post : Int32 → Prop} (ho : op = 0 ∨ op = 1 ∨ op = 2 ∨ op = 3 ∨ op = 4 ∨ op = 5 ∨ op = 6) (h : post (so_b (so_gy nW op y))) : wpX_isGoodY post (nI nP, nI nW, nI nD, nI nL, nI E, nI G, ra, ac, cd, cx, cy, ln, rg, ct, bE, bA, bV, hea, pn, wd, wr, K, O, A, Wt, R, S, Pl, nd, ar, rW, rV) op y := by
  unfold wpX_isGoodY
  dsimp only
  rcases ho with rfl | rfl | rfl | rfl | rfl | rfl | rfl
  · exact br_t (by decide) h
  · have hx : so_gy nW 1 y = (!decide (y < 0) && decide (y ≤ 3)) := rfl
    rw [hx] at h
    exact br_f (by decide) (br_f (by decide) (br_t rfl (br_c (fun q => so_q h (by simp [q])) (fun q => br_c (fun q2 => so_q h (by simp [Int32.not_le.mpr q2])) (fun q2 => so_p h (by simp [q, Int32.not_lt.mp q2]))))))
  · have hx : so_gy nW 2 y = (!decide (y < 0) && decide (y ≤ 16)) := rfl
    rw [hx] at h
    exact br_f (by decide) (br_f (by decide) (br_f (by decide) (br_t rfl (br_c (fun q => so_q h (by simp [q])) (fun q => br_c (fun q2 => so_q h (by simp [Int32.not_le.mpr q2])) (fun q2 => so_p h (by simp [q, Int32.not_lt.mp q2])))))))
  · refine br_f (by decide) (br_f (by decide) (br_f (by decide) (br_f (by decide) (br_t rfl ?_))))
    unfold wX_isGoodY_71
    exact so_xad ⟨so_nb _, h⟩
  · refine br_f (by decide) (br_f (by decide) (br_f (by decide) (br_f (by decide) (br_f (by decide) (br_t rfl ?_)))))
    unfold wX_isGoodY_71
    exact so_xad ⟨so_nb _, h⟩
  · exact br_f (by decide) (br_f (by decide) (br_f (by decide) (br_f (by decide) (br_f (by decide) (br_f (by decide) (br_t rfl h))))))
  · refine br_f (by decide) (br_f (by decide) (br_f (by decide) (br_f (by decide) (br_f (by decide) (br_f (by decide) (br_f (by decide) (br_t rfl ?_)))))))
    unfold wX_isGoodY_71
    exact so_xad ⟨so_nb _, h⟩
theorem so_x55 {post : Int32 → SX → Prop} (hp : p < 4) (hln : ln p = nI l) (hl : l < 16) (ho : op = 0 ∨ op = 1 ∨ op = 2 ∨ op = 3 ∨ op = 4 ∨ op = 5 ∨ op = 6)
    (h0 : so_gy nW op y = false → post (-6) (nI nP, nI nW, nI nD, nI nL, nI E, nI G, ra, ac, cd, cx, cy, ln, rg, ct, bE, bA, bV, hea, pn, wd, wr, K, O, A, Wt, R, S, Pl, nd, ar, rW, rV)) (h1 : so_gy nW op y = true → post 0 (nI nP, nI nW, nI nD, nI nL, nI E, nI G, ra, ac, upd cd (p * 16 + l) op, upd cx (p * 16 + l) x, upd cy (p * 16 + l) y, upd ln p (nI (l + 1)), rg, ct, bE, bA, bV, hea, pn, wd, wr, K, O, A, Wt, R, S, Pl, nd, ar, rW, rV)) : wX_addInstruction_55 post (nI p) op x y (nI nP) (nI nW) (nI nD) (nI nL) (nI E) (nI G) ra ac cd cx cy ln rg ct bE bA bV hea pn wd wr K O A Wt R S Pl nd ar rW rV := by
  have cp := so_cl (e := p) (by omega)
  have cs := nI_clamp (n := p * 16 + l) (by omega)
  have hvp := vp_in_nI hp (by decide)
  have hvs := vp_in_nI (n := p * 16 + l) (N := 64) (by omega) (by decide)
  unfold wX_addInstruction_55
  rw [cp, hln, so_i16, nI_1]
  refine so_xgy ho (so_br (fun q => h0 q) (fun q => ⟨hvp, nm_e ?_⟩))
  rw [cs]
  exact ⟨hvs, nm_e ⟨hvs, nm_e ⟨hvs, nm_e ⟨hvp, hvp, nm_e (h1 q)⟩⟩⟩⟩
theorem so_y59 {post : Int32 → SY → Prop} (hp : p < 4) (hln : ln p = nI l) (hl : l < 16) (ho : op = 0 ∨ op = 1 ∨ op = 2 ∨ op = 3 ∨ op = 4 ∨ op = 5 ∨ op = 6)
    (h0 : so_gy nW op y = false → post (-6) (nI nP, nI nW, nI nD, nI nL, nI E, ra, cd, cx, cy, ln, rg, ct, K, O, A, Wt, R, S, Pl, md, li, lt)) (h1 : so_gy nW op y = true → post 0 (nI nP, nI nW, nI nD, nI nL, nI E, ra, upd cd (p * 16 + l) op, upd cx (p * 16 + l) x, upd cy (p * 16 + l) y, upd ln p (nI (l + 1)), rg, ct, K, O, A, Wt, R, S, Pl, md, li, lt)) : wY_addInstruction_59 post (nI p) op x y (nI nP) (nI nW) (nI nD) (nI nL) (nI E) ra cd cx cy ln rg ct K O A Wt R S Pl md li lt := by
  have cp := so_cl (e := p) (by omega)
  have cs := nI_clamp (n := p * 16 + l) (by omega)
  have hvp := vp_in_nI hp (by decide)
  have hvs := vp_in_nI (n := p * 16 + l) (N := 64) (by omega) (by decide)
  have k131 : so_gy nW op y = true → wY_addInstruction_131 post (nI p) op x y (nI nP) (nI nW) (nI nD) (nI nL) (nI E) ra cd cx cy ln rg ct K O A Wt R S Pl md li lt := by
    intro q
    unfold wY_addInstruction_131
    rw [cp, hln, so_i16, nI_1]
    refine ⟨hvp, nm_e ?_⟩
    rw [cs]
    exact ⟨hvs, nm_e ⟨hvs, nm_e ⟨hvs, nm_e ⟨hvp, hvp, nm_e (h1 q)⟩⟩⟩⟩
  have k114 : so_gy nW op y = (!decide (y < 0) && decide (y < nI nW)) → wY_addInstruction_114 post (nI p) op x y (nI nP) (nI nW) (nI nD) (nI nL) (nI E) ra cd cx cy ln rg ct K O A Wt R S Pl md li lt := by
    intro e
    unfold wY_addInstruction_114
    exact br_c (fun q => h0 (by rw [e]; simp [q])) (fun q => br_c (fun q2 => k131 (by rw [e]; simp [q, q2])) (fun q2 => h0 (by rw [e]; simp [q2])))
  rcases ho with rfl | rfl | rfl | rfl | rfl | rfl | rfl
  · exact br_f (by decide) (br_f (by decide) (br_f (by decide) (br_f (by decide) (br_f (by decide) (k131 rfl)))))
  · have hx : so_gy nW 1 y = (!decide (y < 0) && decide (y ≤ 3)) := rfl
    exact br_t rfl (br_c (fun q => h0 (by rw [hx]; simp [q])) (fun q => br_c (fun q2 => br_f (by decide) (br_f (by decide) (br_f (by decide) (br_f (by decide) (k131 (by rw [hx]; simp [q, q2])))))) (fun q2 => h0 (by rw [hx]; simp [q2]))))
  · have hx : so_gy nW 2 y = (!decide (y < 0) && decide (y ≤ 16)) := rfl
    exact br_f (by decide) (br_t rfl (br_c (fun q => h0 (by rw [hx]; simp [q])) (fun q => br_c (fun q2 => br_f (by decide) (br_f (by decide) (br_f (by decide) (k131 (by rw [hx]; simp [q, q2]))))) (fun q2 => h0 (by rw [hx]; simp [q2])))))
  · exact br_f (by decide) (br_f (by decide) (br_t rfl (k114 rfl)))
  · exact br_f (by decide) (br_f (by decide) (br_f (by decide) (br_t rfl (k114 rfl))))
  · exact br_f (by decide) (br_f (by decide) (br_f (by decide) (br_f (by decide) (br_f (by decide) (k131 rfl)))))
  · exact br_f (by decide) (br_f (by decide) (br_f (by decide) (br_f (by decide) (br_t rfl (k114 rfl)))))
theorem so_I_ai (hl : l < 16) (hln : ln p = nI l) (hin : so_In nW op x y) (h : so_I nP nW nD nL E G ra cd cx cy ln ct bE bA bV hea pn wd wr K O A Wt S Pl md) : so_I nP nW nD nL E G ra (upd cd (p * 16 + l) op) (upd cx (p * 16 + l) x) (upd cy (p * 16 + l) y) (upd ln p (nI (l + 1))) ct bE bA bV hea pn wd wr K O A Wt S Pl md := by
  obtain ⟨h1, h2, h3, h4⟩ := h
  refine ⟨h1, h2, fun p' hp' => ?_, h4⟩
  obtain ⟨⟨l', g1, g2, g3⟩, g4⟩ := h3 p' hp'
  refine ⟨?_, g4⟩
  by_cases q : p' = p
  · subst q
    have : l' = l := so_inj (by omega) (by omega) (g2.symm.trans hln)
    subst this
    refine ⟨l' + 1, by omega, pk_us, fun i hi => ?_⟩
    by_cases z : i = l'
    · subst z
      rw [pk_us, pk_us, pk_us]
      exact hin
    · have hne : p' * 16 + i ≠ p' * 16 + l' := by omega
      rw [pk_un hne, pk_un hne, pk_un hne]
      exact g3 i (by omega)
  · refine ⟨l', g1, by rw [pk_un q]; exact g2, fun i hi => ?_⟩
    have hne : p' * 16 + i ≠ p * 16 + l := by omega
    rw [pk_un hne, pk_un hne, pk_un hne]
    exact g3 i hi
theorem so_addI (hI : so_I nP nW nD nL E G ra cd cx cy ln ct bE bA bV hea pn wd wr K O A Wt S Pl md) (pv op x y : Int32) : so_both (fun po => wpX_addInstruction po (nI nP, nI nW, nI nD, nI nL, nI E, nI G, ra, ac, cd, cx, cy, ln, rg, ct, bE, bA, bV, hea, pn, wd, wr, K, O, A, Wt, R, S, Pl, nd, ar, rW, rV) pv op x y) (fun po => wpY_addInstruction po (nI nP, nI nW, nI nD, nI nL, nI E, ra, cd, cx, cy, ln, rg, ct, K, O, A, Wt, R, S, Pl, md, li, lt) pv op x y) := by
  obtain ⟨⟨s1, s2, s3, s4, s5, s6, s7, s8, s9⟩, h2, h3, h4, h5, h6, h7, h8⟩ := id hI
  have bad : pv < 0 ∨ nI nP ≤ pv → so_both (fun po => wpX_addInstruction po (nI nP, nI nW, nI nD, nI nL, nI E, nI G, ra, ac, cd, cx, cy, ln, rg, ct, bE, bA, bV, hea, pn, wd, wr, K, O, A, Wt, R, S, Pl, nd, ar, rW, rV) pv op x y) (fun po => wpY_addInstruction po (nI nP, nI nW, nI nD, nI nL, nI E, ra, cd, cx, cy, ln, rg, ct, K, O, A, Wt, R, S, Pl, md, li, lt) pv op x y) := by
    intro hb
    refine ⟨-2, (nI nP, nI nW, nI nD, nI nL, nI E, nI G, ra, ac, cd, cx, cy, ln, rg, ct, bE, bA, bV, hea, pn, wd, wr, K, O, A, Wt, R, S, Pl, nd, ar, rW, rV), (nI nP, nI nW, nI nD, nI nL, nI E, ra, cd, cx, cy, ln, rg, ct, K, O, A, Wt, R, S, Pl, md, li, lt), so_mkR hI, fun po hpo => ?_, fun po hpo => ?_⟩
    · unfold wpX_addInstruction
      dsimp only
      exact so_xP0 hb (br_t rfl hpo)
    · unfold wpY_addInstruction
      dsimp only
      by_cases z : pv < 0
      · exact br_t z hpo
      · exact br_f z (br_f (Int32.not_lt.mpr (hb.resolve_left z)) hpo)
  rcases pk_ix pv (n := nP) (by omega) with hb | hb | ⟨p, hp, rfl⟩
  · exact bad (Or.inl hb)
  · exact bad (Or.inr hb)
  obtain ⟨⟨l, hl, hln, hin⟩, _⟩ := h3 p hp
  have cp := so_cl (e := p) (by omega)
  have hvp := vp_in_nI (n := p) (N := 4) (by omega) (by decide)
  have hp0 : ¬ nI p < 0 := nI_pos (by omega)
  have hpl : nI p < nI nP := nI_lt hp (by omega)
  unfold so_both
  unfold wpX_addInstruction wpY_addInstruction
  dsimp only
  rw [cp, hln]
  by_cases q0 : op < 0
  · exact ⟨-3, (nI nP, nI nW, nI nD, nI nL, nI E, nI G, ra, ac, cd, cx, cy, ln, rg, ct, bE, bA, bV, hea, pn, wd, wr, K, O, A, Wt, R, S, Pl, nd, ar, rW, rV), (nI nP, nI nW, nI nD, nI nL, nI E, ra, cd, cx, cy, ln, rg, ct, K, O, A, Wt, R, S, Pl, md, li, lt), so_mkR hI, fun po hpo => so_xP1 hp s2 (br_f (by decide) (br_t q0 hpo)), fun po hpo => br_f hp0 (br_t hpl (br_t q0 hpo))⟩
  by_cases q6 : op ≤ 6
  case neg => exact ⟨-3, (nI nP, nI nW, nI nD, nI nL, nI E, nI G, ra, ac, cd, cx, cy, ln, rg, ct, bE, bA, bV, hea, pn, wd, wr, K, O, A, Wt, R, S, Pl, nd, ar, rW, rV), (nI nP, nI nW, nI nD, nI nL, nI E, ra, cd, cx, cy, ln, rg, ct, K, O, A, Wt, R, S, Pl, md, li, lt), so_mkR hI, fun po hpo => so_xP1 hp s2 (br_f (by decide) (br_f q0 (br_f q6 hpo))), fun po hpo => br_f hp0 (br_t hpl (br_f q0 (br_f q6 hpo)))⟩
  by_cases ql : nI l < 16
  case neg => exact ⟨-4, (nI nP, nI nW, nI nD, nI nL, nI E, nI G, ra, ac, cd, cx, cy, ln, rg, ct, bE, bA, bV, hea, pn, wd, wr, K, O, A, Wt, R, S, Pl, nd, ar, rW, rV), (nI nP, nI nW, nI nD, nI nL, nI E, ra, cd, cx, cy, ln, rg, ct, K, O, A, Wt, R, S, Pl, md, li, lt), so_mkR hI, fun po hpo => so_xP1 hp s2 (br_f (by decide) (br_f q0 (br_t q6 ⟨hvp, br_f ql hpo⟩))), fun po hpo => br_f hp0 (br_t hpl (br_f q0 (br_t q6 ⟨hvp, br_f ql hpo⟩)))⟩
  have hl' : l < 16 := by
    have : nI l < nI 16 := ql
    rw [nI_ltI (by omega) (by omega)] at this
    exact this
  have ho := so_oc q0 q6
  have fin : (op = 5 ∨ so_rx x) → ∃ (r : Int32) (u' : SX) (v' : SY), so_Rel u' v' ∧ (∀ po : Int32 → SX → Prop, po r u' → wX_addInstruction_55 po (nI p) op x y (nI nP) (nI nW) (nI nD) (nI nL) (nI E) (nI G) ra ac cd cx cy ln rg ct bE bA bV hea pn wd wr K O A Wt R S Pl nd ar rW rV) ∧ (∀ po : Int32 → SY → Prop, po r v' → wY_addInstruction_59 po (nI p) op x y (nI nP) (nI nW) (nI nD) (nI nL) (nI E) ra cd cx cy ln rg ct K O A Wt R S Pl md li lt) := by
    intro hx
    cases hg : so_gy nW op y
    · exact ⟨-6, (nI nP, nI nW, nI nD, nI nL, nI E, nI G, ra, ac, cd, cx, cy, ln, rg, ct, bE, bA, bV, hea, pn, wd, wr, K, O, A, Wt, R, S, Pl, nd, ar, rW, rV), (nI nP, nI nW, nI nD, nI nL, nI E, ra, cd, cx, cy, ln, rg, ct, K, O, A, Wt, R, S, Pl, md, li, lt), so_mkR hI, fun po hpo => so_x55 (by omega) hln hl' ho (fun _ => hpo) (fun z => by rw [hg] at z; exact absurd z (by decide)), fun po hpo => so_y59 (by omega) hln hl' ho (fun _ => hpo) (fun z => by rw [hg] at z; exact absurd z (by decide))⟩
    · exact ⟨0, (nI nP, nI nW, nI nD, nI nL, nI E, nI G, ra, ac, upd cd (p * 16 + l) op, upd cx (p * 16 + l) x, upd cy (p * 16 + l) y, upd ln p (nI (l + 1)), rg, ct, bE, bA, bV, hea, pn, wd, wr, K, O, A, Wt, R, S, Pl, nd, ar, rW, rV), (nI nP, nI nW, nI nD, nI nL, nI E, ra, upd cd (p * 16 + l) op, upd cx (p * 16 + l) x, upd cy (p * 16 + l) y, upd ln p (nI (l + 1)), rg, ct, K, O, A, Wt, R, S, Pl, md, li, lt), so_mkR (so_I_ai hl' hln (so_in_of s4 ho hx hg) hI), fun po hpo => so_x55 (by omega) hln hl' ho (fun z => by rw [hg] at z; exact absurd z (by decide)) (fun _ => hpo), fun po hpo => so_y59 (by omega) hln hl' ho (fun z => by rw [hg] at z; exact absurd z (by decide)) (fun _ => hpo)⟩
  by_cases q5 : op = 5
  · obtain ⟨r, u', v', hR, hX, hY⟩ := fin (Or.inl q5)
    exact ⟨r, u', v', hR, fun po hpo => so_xP1 hp s2 (br_f (by decide) (br_f q0 (br_t q6 ⟨hvp, br_t ql (br_t q5 (hX po hpo))⟩))), fun po hpo => br_f hp0 (br_t hpl (br_f q0 (br_t q6 ⟨hvp, br_t ql (br_t q5 (hY po hpo))⟩)))⟩
  by_cases qx : x < 0
  · exact ⟨-5, (nI nP, nI nW, nI nD, nI nL, nI E, nI G, ra, ac, cd, cx, cy, ln, rg, ct, bE, bA, bV, hea, pn, wd, wr, K, O, A, Wt, R, S, Pl, nd, ar, rW, rV), (nI nP, nI nW, nI nD, nI nL, nI E, ra, cd, cx, cy, ln, rg, ct, K, O, A, Wt, R, S, Pl, md, li, lt), so_mkR hI, fun po hpo => so_xP1 hp s2 (br_f (by decide) (br_f q0 (br_t q6 ⟨hvp, br_t ql (br_f q5 (br_t qx hpo))⟩))), fun po hpo => br_f hp0 (br_t hpl (br_f q0 (br_t q6 ⟨hvp, br_t ql (br_f q5 (br_t qx hpo))⟩)))⟩
  by_cases q3 : x ≤ 3
  · obtain ⟨r, u', v', hR, hX, hY⟩ := fin (Or.inr (so_rx_of qx q3))
    exact ⟨r, u', v', hR, fun po hpo => so_xP1 hp s2 (br_f (by decide) (br_f q0 (br_t q6 ⟨hvp, br_t ql (br_f q5 (br_f qx (br_t q3 (hX po hpo))))⟩))), fun po hpo => br_f hp0 (br_t hpl (br_f q0 (br_t q6 ⟨hvp, br_t ql (br_f q5 (br_f qx (br_t q3 (hY po hpo))))⟩)))⟩
  · exact ⟨-5, (nI nP, nI nW, nI nD, nI nL, nI E, nI G, ra, ac, cd, cx, cy, ln, rg, ct, bE, bA, bV, hea, pn, wd, wr, K, O, A, Wt, R, S, Pl, nd, ar, rW, rV), (nI nP, nI nW, nI nD, nI nL, nI E, ra, cd, cx, cy, ln, rg, ct, K, O, A, Wt, R, S, Pl, md, li, lt), so_mkR hI, fun po hpo => so_xP1 hp s2 (br_f (by decide) (br_f q0 (br_t q6 ⟨hvp, br_t ql (br_f q5 (br_f qx (br_f q3 hpo)))⟩))), fun po hpo => br_f hp0 (br_t hpl (br_f q0 (br_t q6 ⟨hvp, br_t ql (br_f q5 (br_f qx (br_f q3 hpo)))⟩)))⟩
/-! places -/
theorem so_xap {post : Int32 → Prop} {z : Int32} {e0 : Nat} (hE : E ≤ 24) (he : e0 < E) (hz : Pl e0 = z) (hu : ∀ e, e < E → Pl e = z → e = e0) (h : post (nI e0)) : wpX_eventAtPlace post (nI nP, nI nW, nI nD, nI nL, nI E, nI G, ra, ac, cd, cx, cy, ln, rg, ct, bE, bA, bV, hea, pn, wd, wr, K, O, A, Wt, R, S, Pl, nd, ar, rW, rV) z := by
  unfold wpX_eventAtPlace
  dsimp only
  have hf : so_fst (fun e => decide (Pl e = z)) E 0 = nI e0 := by
    rcases so_fst_spec (f := fun e => decide (Pl e = z)) E 0 with ⟨_, g2⟩ | ⟨j, _, g2, g3, g4, _⟩
    · have := g2 e0 (by omega) (by omega)
      exact absurd hz (of_decide_eq_false this)
    · rw [g3, hu j (by omega) (of_decide_eq_true g4)]
  rw [← hf] at h
  refine ⟨E + 1, so_lfst (fun n w => wX_eventAtPlace_2 post z (nI nP) (nI nW) (nI nD) (nI nL) (nI E) (nI G) ra ac cd cx cy ln rg ct bE bA bV hea pn wd wr K O A Wt R S Pl nd ar rW rV n w) post (fun e => decide (Pl e = z)) E (fun n hp => ?_) (fun n i hi ht hg => ?_) E 0 (E + 1) (by omega) (by omega) h⟩
  · exact br_t (nI_le (Nat.le_refl _) (by omega)) hp
  · have c := so_cl (e := i) (by omega)
    have hv := vp_in_nI (n := i) (N := 24) (by omega) (by decide)
    rw [wX_eventAtPlace_2]
    dsimp only
    rw [c]
    exact br_f (nI_ge hi (by omega)) ⟨hv, br_c (fun q => ht (by simp [q])) (fun q => nm_r (nI_1 i) (hg (by simp [q])))⟩
end
def so_sw (x y z : Int32) : Int32 := if z = x then y else if z = y then x else z
def so_swp (Pl : Nat → Int32) (x y : Int32) (t : Nat) : Nat → Int32 := fun e => if e < t then so_sw x y (Pl e) else Pl e
theorem so_swp_s (Pl : Nat → Int32) (x y v : Int32) (t : Nat) (h : v = so_sw x y (Pl t)) : upd (so_swp Pl x y t) t v = so_swp Pl x y (t + 1) := by
  funext e
  unfold upd so_swp
  by_cases q : e = t
  · subst q
    rw [if_pos rfl, if_pos (by omega), h]
  · rw [if_neg q]
    by_cases z : e < t
    · rw [if_pos z, if_pos (by omega)]
    · rw [if_neg z, if_neg (by omega)]
theorem so_swp_k (Pl : Nat → Int32) (x y : Int32) (t : Nat) (h : Pl t = so_sw x y (Pl t)) : so_swp Pl x y t = so_swp Pl x y (t + 1) := by
  funext e
  unfold so_swp
  by_cases z : e < t
  · rw [if_pos z, if_pos (by omega)]
  · rw [if_neg z]
    by_cases q : e = t
    · subst q
      rw [if_pos (by omega)]
      exact h
    · rw [if_neg (by omega)]
section
variable {nP nW nD nL E G : Nat} {ra ac : Int32} {cd cx cy ln rg ct bE bA bV hea pn wd wr K O A Wt R S Pl nd ar rW rV md li lt : Nat → Int32}
theorem so_y29 {post : Int32 → SY → Prop} {x y : Int32} (hE : E ≤ 24) (h : post 0 (nI nP, nI nW, nI nD, nI nL, nI E, 1, cd, cx, cy, ln, rg, ct, K, O, A, Wt, R, S, so_swp Pl x y E, md, li, lt)) : ∀ (k i n : Nat), i + k = E → k < n → wY_exchangePlaces_29 post x y (nI nP) (nI nW) (nI nD) (nI nL) (nI E) ra n (nI i) cd cx cy ln rg ct K O A Wt R S (so_swp Pl x y i) md li lt := by
  intro k
  induction k with
  | zero =>
    intro i n hi hk
    obtain ⟨m', rfl⟩ : ∃ m, n = m + 1 := ⟨n - 1, by omega⟩
    obtain rfl : i = E := by omega
    exact br_t (nI_le (Nat.le_refl _) (by omega)) h
  | succ k ih =>
    intro i n hi hk
    obtain ⟨m', rfl⟩ : ∃ m, n = m + 1 := ⟨n - 1, by omega⟩
    have c := so_cl (e := i) (by omega)
    have hv := vp_in_nI (n := i) (N := 24) (by omega) (by decide)
    have hi' : so_swp Pl x y i i = Pl i := if_neg (by omega)
    have IH := ih (i + 1) m' (by omega) (by omega)
    rw [wY_exchangePlaces_29]
    dsimp only
    rw [c, hi']
    refine br_f (nI_ge (by omega) (by omega)) ⟨hv, br_c (fun q => ⟨hv, nm_r (so_swp_s Pl x y y i ?_) (nm_r (nI_1 i) IH)⟩) (fun q => ⟨hv, br_c (fun q2 => ⟨hv, nm_r (so_swp_s Pl x y x i ?_) (nm_r (nI_1 i) IH)⟩) (fun q2 => nm_r (nI_1 i) ?_)⟩)⟩
    · rw [so_sw, if_pos q]
    · rw [so_sw, if_neg q, if_pos q2]
    · rw [so_swp_k Pl x y i (by rw [so_sw, if_neg q, if_neg q2])]
      exact IH
theorem so_exP (hI : so_I nP nW nD nL E G ra cd cx cy ln ct bE bA bV hea pn wd wr K O A Wt S Pl md) (v1 v2 : Int32) : so_both (fun po => wpX_exchangePlaces po (nI nP, nI nW, nI nD, nI nL, nI E, nI G, ra, ac, cd, cx, cy, ln, rg, ct, bE, bA, bV, hea, pn, wd, wr, K, O, A, Wt, R, S, Pl, nd, ar, rW, rV) v1 v2) (fun po => wpY_exchangePlaces po (nI nP, nI nW, nI nD, nI nL, nI E, ra, cd, cx, cy, ln, rg, ct, K, O, A, Wt, R, S, Pl, md, li, lt) v1 v2) := by
  obtain ⟨⟨s1, s2, s3, s4, s5, s6, s7, s8, s9⟩, h2, h3, h4, h5, h6, h7, h8⟩ := id hI
  unfold so_both
  unfold wpX_exchangePlaces wpY_exchangePlaces
  dsimp only
  have hG : ∀ po : Int32 → Prop, po (nI G) → wpY_given po (nI nP, nI nW, nI nD, nI nL, nI E, ra, cd, cx, cy, ln, rg, ct, K, O, A, Wt, R, S, Pl, md, li, lt) := fun po hpo => so_ygv (by omega) (by rw [← h5.1]; exact hpo)
  by_cases a1 : v1 < 0
  · exact ⟨-11, (nI nP, nI nW, nI nD, nI nL, nI E, nI G, ra, ac, cd, cx, cy, ln, rg, ct, bE, bA, bV, hea, pn, wd, wr, K, O, A, Wt, R, S, Pl, nd, ar, rW, rV), (nI nP, nI nW, nI nD, nI nL, nI E, ra, cd, cx, cy, ln, rg, ct, K, O, A, Wt, R, S, Pl, md, li, lt), so_mkR hI, fun po hpo => br_t a1 hpo, fun po hpo => hG _ (br_t a1 hpo)⟩
  by_cases a2 : nI G ≤ v1
  · exact ⟨-11, (nI nP, nI nW, nI nD, nI nL, nI E, nI G, ra, ac, cd, cx, cy, ln, rg, ct, bE, bA, bV, hea, pn, wd, wr, K, O, A, Wt, R, S, Pl, nd, ar, rW, rV), (nI nP, nI nW, nI nD, nI nL, nI E, ra, cd, cx, cy, ln, rg, ct, K, O, A, Wt, R, S, Pl, md, li, lt), so_mkR hI, fun po hpo => br_f a1 (br_t a2 hpo), fun po hpo => hG _ (br_f a1 (br_t a2 hpo))⟩
  by_cases b1 : v2 < 0
  · exact ⟨-11, (nI nP, nI nW, nI nD, nI nL, nI E, nI G, ra, ac, cd, cx, cy, ln, rg, ct, bE, bA, bV, hea, pn, wd, wr, K, O, A, Wt, R, S, Pl, nd, ar, rW, rV), (nI nP, nI nW, nI nD, nI nL, nI E, ra, cd, cx, cy, ln, rg, ct, K, O, A, Wt, R, S, Pl, md, li, lt), so_mkR hI, fun po hpo => br_f a1 (br_f a2 (br_t b1 hpo)), fun po hpo => hG _ (br_f a1 (br_f a2 (br_t b1 hpo)))⟩
  by_cases b2 : v2 < nI G
  case neg => exact ⟨-11, (nI nP, nI nW, nI nD, nI nL, nI E, nI G, ra, ac, cd, cx, cy, ln, rg, ct, bE, bA, bV, hea, pn, wd, wr, K, O, A, Wt, R, S, Pl, nd, ar, rW, rV), (nI nP, nI nW, nI nD, nI nL, nI E, ra, cd, cx, cy, ln, rg, ct, K, O, A, Wt, R, S, Pl, md, li, lt), so_mkR hI, fun po hpo => br_f a1 (br_f a2 (br_f b1 (br_f b2 hpo))), fun po hpo => hG _ (br_f a1 (br_f a2 (br_f b1 (br_f b2 hpo))))⟩
  obtain ⟨i, hi, rfl⟩ : ∃ i, i < G ∧ v1 = nI i := by
    obtain ⟨j, hj, rfl⟩ := nI_of a1
    rw [nI_leI (by omega) hj] at a2
    exact ⟨j, by omega, rfl⟩
  obtain ⟨j, hj, rfl⟩ : ∃ i, i < G ∧ v2 = nI i := by
    obtain ⟨j, hj, rfl⟩ := nI_of b1
    rw [nI_ltI hj (by omega)] at b2
    exact ⟨j, b2, rfl⟩
  obtain ⟨q, q1, q2⟩ := id h6
  obtain ⟨i1, i2⟩ := q1 i hi
  obtain ⟨j1, j2⟩ := q1 j hj
  have hu : ∀ t, t < G → ∀ e, e < E → Pl e = nI t → e = q t := by
    intro t ht e he hPl
    rcases q2 e he with g | ⟨t', g1, g2, g3⟩
    · exact absurd (hPl.symm.trans g) (so_ne1 (by omega))
    · have : t = t' := so_inj (by omega) (by omega) (hPl.symm.trans g2)
      rw [this]
      exact g3.symm
  have hsw : so_swp Pl (nI i) (nI j) E = upd (upd Pl (q i) (nI j)) (q j) (nI i) := by
    funext e
    unfold so_swp
    by_cases he : e < E
    · rw [if_pos he]
      by_cases z1 : e = q j
      · subst z1
        rw [pk_us, j2, so_sw]
        by_cases w : nI j = nI i
        · rw [if_pos w]
          exact w
        · rw [if_neg w, if_pos rfl]
      · rw [pk_un z1]
        by_cases z2 : e = q i
        · subst z2
          rw [pk_us, i2, so_sw, if_pos rfl]
        · rw [pk_un z2, so_sw, if_neg (fun w => z2 (hu i hi e he w)), if_neg (fun w => z1 (hu j hj e he w))]
    · rw [if_neg he, pk_un (by omega), pk_un (by omega)]
  have hI2 : so_I nP nW nD nL E G 1 cd cx cy ln ct bE bA bV hea pn wd wr K O A Wt S (upd (upd Pl (q i) (nI j)) (q j) (nI i)) md := by
    refine ⟨⟨s1, s2, s3, s4, s5, s6, s7, s8, s9⟩, Or.inr rfl, h3, h4, ⟨h5.1, fun e he => ?_⟩, ⟨fun t => if t = i then q j else if t = j then q i else q t, fun t ht => ?_, fun e he => ?_⟩, h7, h8⟩
    · rcases h5.2 e he with ⟨g1, g2⟩ | g
      · refine Or.inl ⟨g1, ?_⟩
        rw [pk_un, pk_un]
        · exact g2
        · intro w
          rw [w, i2] at g2
          exact so_ne1 (by omega) g2
        · intro w
          rw [w, j2] at g2
          exact so_ne1 (by omega) g2
      · exact Or.inr g
    · dsimp only
      by_cases w1 : t = i
      · subst w1
        rw [if_pos rfl]
        exact ⟨j1, pk_us⟩
      · rw [if_neg w1]
        by_cases w2 : t = j
        · subst w2
          rw [if_pos rfl]
          refine ⟨i1, ?_⟩
          rw [pk_un, pk_us]
          intro w
          rw [w] at i2
          exact w1 (so_inj (by omega) (by omega) (j2.symm.trans i2))
        · rw [if_neg w2]
          obtain ⟨t1, t2⟩ := q1 t ht
          refine ⟨t1, ?_⟩
          rw [pk_un, pk_un]
          · exact t2
          · intro w
            rw [w] at t2
            exact w1 (so_inj (by omega) (by omega) (t2.symm.trans i2))
          · intro w
            rw [w] at t2
            exact w2 (so_inj (by omega) (by omega) (t2.symm.trans j2))
    · by_cases z1 : e = q j
      · subst z1
        refine Or.inr ⟨i, hi, pk_us, ?_⟩
        dsimp only
        rw [if_pos rfl]
      · rw [pk_un z1]
        by_cases z2 : e = q i
        · subst z2
          refine Or.inr ⟨j, hj, pk_us, ?_⟩
          dsimp only
          have : ¬ j = i := fun w => z1 (by rw [w])
          rw [if_neg this, if_pos rfl]
        · rw [pk_un z2]
          rcases q2 e he with g | ⟨t, g1, g2, g3⟩
          · exact Or.inl g
          · refine Or.inr ⟨t, g1, g2, ?_⟩
            dsimp only
            have w1 : ¬ t = i := fun w => z2 (by rw [← w]; exact g3.symm)
            have w2 : ¬ t = j := fun w => z1 (by rw [← w]; exact g3.symm)
            rw [if_neg w1, if_neg w2]
            exact g3
  refine ⟨0, (nI nP, nI nW, nI nD, nI nL, nI E, nI G, 1, ac, cd, cx, cy, ln, rg, ct, bE, bA, bV, hea, pn, wd, wr, K, O, A, Wt, R, S, upd (upd Pl (q i) (nI j)) (q j) (nI i), nd, ar, rW, rV), (nI nP, nI nW, nI nD, nI nL, nI E, 1, cd, cx, cy, ln, rg, ct, K, O, A, Wt, R, S, upd (upd Pl (q i) (nI j)) (q j) (nI i), md, li, lt), so_mkR hI2, fun po hpo => ?_, fun po hpo => ?_⟩
  · refine br_f a1 (br_f a2 (br_f b1 (br_t b2 (so_xap (by omega) i1 i2 (hu i hi) (so_xap (by omega) j1 j2 (hu j hj) ?_)))))
    rw [so_cl (e := q i) (by omega), so_cl (e := q j) (by omega)]
    exact br_f (so_nlt (by omega)) (br_f (so_nlt (by omega)) ⟨vp_in_nI (by omega) (by decide), nm_e ⟨vp_in_nI (by omega) (by decide), nm_e hpo⟩⟩)
  · refine hG _ (br_f a1 (br_f a2 (br_f b1 (br_t b2 ?_))))
    rw [← hsw] at hpo
    have k29 := so_y29 (ra := ra) (post := po) (by omega) hpo E 0 (E + 1) (by omega) (by omega)
    have h0 : so_swp Pl (nI i) (nI j) 0 = Pl := by
      funext e
      exact if_neg (by omega)
    rw [h0] at k29
    exact ⟨E + 1, k29⟩
theorem so_red (hI : so_I nP nW nD nL E G ra cd cx cy ln ct bE bA bV hea pn wd wr K O A Wt S Pl md) (v1 v2 : Int32) : so_both (fun po => wpX_redirect po (nI nP, nI nW, nI nD, nI nL, nI E, nI G, ra, ac, cd, cx, cy, ln, rg, ct, bE, bA, bV, hea, pn, wd, wr, K, O, A, Wt, R, S, Pl, nd, ar, rW, rV) v1 v2) (fun po => wpY_redirect po (nI nP, nI nW, nI nD, nI nL, nI E, ra, cd, cx, cy, ln, rg, ct, K, O, A, Wt, R, S, Pl, md, li, lt) v1 v2) := by
  obtain ⟨⟨s1, s2, s3, s4, s5, s6, s7, s8, s9⟩, h2, h3, h4, h5, h6, h7, h8⟩ := id hI
  unfold so_both
  unfold wpX_redirect wpY_redirect
  dsimp only
  rcases pk_ix v1 (n := E) (by omega) with hb | hb | ⟨e, he, rfl⟩
  · exact ⟨-12, (nI nP, nI nW, nI nD, nI nL, nI E, nI G, ra, ac, cd, cx, cy, ln, rg, ct, bE, bA, bV, hea, pn, wd, wr, K, O, A, Wt, R, S, Pl, nd, ar, rW, rV), (nI nP, nI nW, nI nD, nI nL, nI E, ra, cd, cx, cy, ln, rg, ct, K, O, A, Wt, R, S, Pl, md, li, lt), so_mkR hI, fun po hpo => so_xE0 (Or.inl hb) (br_t rfl hpo), fun po hpo => br_t hb hpo⟩
  · have hb0 : ¬ v1 < 0 := Int32.not_lt.mpr (Int32.le_trans (nI_pos' (by omega)) hb)
    exact ⟨-12, (nI nP, nI nW, nI nD, nI nL, nI E, nI G, ra, ac, cd, cx, cy, ln, rg, ct, bE, bA, bV, hea, pn, wd, wr, K, O, A, Wt, R, S, Pl, nd, ar, rW, rV), (nI nP, nI nW, nI nD, nI nL, nI E, ra, cd, cx, cy, ln, rg, ct, K, O, A, Wt, R, S, Pl, md, li, lt), so_mkR hI, fun po hpo => so_xE0 (Or.inr hb) (br_t rfl hpo), fun po hpo => br_f hb0 (br_f (Int32.not_lt.mpr hb) hpo)⟩
  have c := so_cl (e := e) (by omega)
  have hv := vp_in_nI (n := e) (N := 24) (by omega) (by decide)
  have e0 : ¬ nI e < 0 := nI_pos (by omega)
  have e1 : nI e < nI E := nI_lt he (by omega)
  rw [c]
  cases hr : so_R K e
  · exact ⟨-13, (nI nP, nI nW, nI nD, nI nL, nI E, nI G, ra, ac, cd, cx, cy, ln, rg, ct, bE, bA, bV, hea, pn, wd, wr, K, O, A, Wt, R, S, Pl, nd, ar, rW, rV), (nI nP, nI nW, nI nD, nI nL, nI E, ra, cd, cx, cy, ln, rg, ct, K, O, A, Wt, R, S, Pl, md, li, lt), so_mkR hI, fun po hpo => so_xE1 he (by omega) (br_f (by decide) (so_xR (by omega) (by rw [hr]; exact br_t rfl hpo))), fun po hpo => br_f e0 (br_t e1 (so_yR (by omega) (by rw [hr]; exact br_t rfl hpo)))⟩
  by_cases a1 : v2 < -1
  · exact ⟨-14, (nI nP, nI nW, nI nD, nI nL, nI E, nI G, ra, ac, cd, cx, cy, ln, rg, ct, bE, bA, bV, hea, pn, wd, wr, K, O, A, Wt, R, S, Pl, nd, ar, rW, rV), (nI nP, nI nW, nI nD, nI nL, nI E, ra, cd, cx, cy, ln, rg, ct, K, O, A, Wt, R, S, Pl, md, li, lt), so_mkR hI, fun po hpo => so_xE1 he (by omega) (br_f (by decide) (so_xR (by omega) (by rw [hr]; exact br_f so_b1 (br_t a1 hpo)))), fun po hpo => br_f e0 (br_t e1 (so_yR (by omega) (by rw [hr]; exact br_f so_b1 (br_t a1 hpo))))⟩
  by_cases a2 : v2 < nI E
  case neg => exact ⟨-14, (nI nP, nI nW, nI nD, nI nL, nI E, nI G, ra, ac, cd, cx, cy, ln, rg, ct, bE, bA, bV, hea, pn, wd, wr, K, O, A, Wt, R, S, Pl, nd, ar, rW, rV), (nI nP, nI nW, nI nD, nI nL, nI E, ra, cd, cx, cy, ln, rg, ct, K, O, A, Wt, R, S, Pl, md, li, lt), so_mkR hI, fun po hpo => so_xE1 he (by omega) (br_f (by decide) (so_xR (by omega) (by rw [hr]; exact br_f so_b1 (br_f a1 (br_f a2 hpo))))), fun po hpo => br_f e0 (br_t e1 (so_yR (by omega) (by rw [hr]; exact br_f so_b1 (br_f a1 (br_f a2 hpo)))))⟩
  have hs : v2 = -1 ∨ ∃ s, s < E ∧ v2 = nI s := by
    by_cases z : v2 < 0
    · left
      apply Int32.toInt_inj.mp
      rw [Int32.lt_iff_toInt_lt] at a1 z
      have m1 : (-1 : Int32).toInt = -1 := by decide
      have m0 : (0 : Int32).toInt = 0 := by decide
      rw [m1] at a1 ⊢
      rw [m0] at z
      omega
    · right
      obtain ⟨j, hj, rfl⟩ := nI_of z
      rw [nI_ltI hj (by omega)] at a2
      exact ⟨j, a2, rfl⟩
  have hI2 : so_I nP nW nD nL E G 1 cd cx cy ln ct bE bA bV hea pn wd wr K O A Wt (upd S e v2) Pl md := by
    refine ⟨⟨s1, s2, s3, s4, s5, s6, s7, s8, s9⟩, Or.inr rfl, h3, fun d hd => ?_, h5, h6, h7, h8⟩
    obtain ⟨g1, g2, g3⟩ := h4 d hd
    refine ⟨g1, g2, ?_⟩
    by_cases z : d = e
    · subst z
      rw [pk_us]
      exact hs
    · rw [pk_un z]
      exact g3
  exact ⟨0, (nI nP, nI nW, nI nD, nI nL, nI E, nI G, 1, ac, cd, cx, cy, ln, rg, ct, bE, bA, bV, hea, pn, wd, wr, K, O, A, Wt, R, upd S e v2, Pl, nd, ar, rW, rV), (nI nP, nI nW, nI nD, nI nL, nI E, 1, cd, cx, cy, ln, rg, ct, K, O, A, Wt, R, upd S e v2, Pl, md, li, lt), so_mkR hI2, fun po hpo => so_xE1 he (by omega) (br_f (by decide) (so_xR (by omega) (by rw [hr]; exact br_f so_b1 (br_f a1 (br_t a2 ⟨hv, nm_e hpo⟩))))), fun po hpo => br_f e0 (br_t e1 (so_yR (by omega) (by rw [hr]; exact br_f so_b1 (br_f a1 (br_t a2 ⟨hv, nm_e hpo⟩)))))⟩
theorem so_rev (hI : so_I nP nW nD nL E G ra cd cx cy ln ct bE bA bV hea pn wd wr K O A Wt S Pl md) (v1 v2 : Int32) : so_both (fun po => wpX_revise po (nI nP, nI nW, nI nD, nI nL, nI E, nI G, ra, ac, cd, cx, cy, ln, rg, ct, bE, bA, bV, hea, pn, wd, wr, K, O, A, Wt, R, S, Pl, nd, ar, rW, rV) v1 v2) (fun po => wpY_revise po (nI nP, nI nW, nI nD, nI nL, nI E, ra, cd, cx, cy, ln, rg, ct, K, O, A, Wt, R, S, Pl, md, li, lt) v1 v2) := by
  obtain ⟨⟨s1, s2, s3, s4, s5, s6, s7, s8, s9⟩, h2, h3, h4, h5, h6, h7, h8⟩ := id hI
  unfold so_both
  unfold wpX_revise wpY_revise
  dsimp only
  rcases pk_ix v1 (n := E) (by omega) with hb | hb | ⟨e, he, rfl⟩
  · exact ⟨-12, (nI nP, nI nW, nI nD, nI nL, nI E, nI G, ra, ac, cd, cx, cy, ln, rg, ct, bE, bA, bV, hea, pn, wd, wr, K, O, A, Wt, R, S, Pl, nd, ar, rW, rV), (nI nP, nI nW, nI nD, nI nL, nI E, ra, cd, cx, cy, ln, rg, ct, K, O, A, Wt, R, S, Pl, md, li, lt), so_mkR hI, fun po hpo => so_xE0 (Or.inl hb) (br_t rfl hpo), fun po hpo => br_t hb hpo⟩
  · have hb0 : ¬ v1 < 0 := Int32.not_lt.mpr (Int32.le_trans (nI_pos' (by omega)) hb)
    exact ⟨-12, (nI nP, nI nW, nI nD, nI nL, nI E, nI G, ra, ac, cd, cx, cy, ln, rg, ct, bE, bA, bV, hea, pn, wd, wr, K, O, A, Wt, R, S, Pl, nd, ar, rW, rV), (nI nP, nI nW, nI nD, nI nL, nI E, ra, cd, cx, cy, ln, rg, ct, K, O, A, Wt, R, S, Pl, md, li, lt), so_mkR hI, fun po hpo => so_xE0 (Or.inr hb) (br_t rfl hpo), fun po hpo => br_f hb0 (br_f (Int32.not_lt.mpr hb) hpo)⟩
  have c := so_cl (e := e) (by omega)
  have hv := vp_in_nI (n := e) (N := 24) (by omega) (by decide)
  have e0 : ¬ nI e < 0 := nI_pos (by omega)
  have e1 : nI e < nI E := nI_lt he (by omega)
  rw [c]
  cases hr : so_R K e
  · exact ⟨-13, (nI nP, nI nW, nI nD, nI nL, nI E, nI G, ra, ac, cd, cx, cy, ln, rg, ct, bE, bA, bV, hea, pn, wd, wr, K, O, A, Wt, R, S, Pl, nd, ar, rW, rV), (nI nP, nI nW, nI nD, nI nL, nI E, ra, cd, cx, cy, ln, rg, ct, K, O, A, Wt, R, S, Pl, md, li, lt), so_mkR hI, fun po hpo => so_xE1 he (by omega) (br_f (by decide) (so_xR (by omega) (by rw [hr]; exact br_t rfl hpo))), fun po hpo => br_f e0 (br_t e1 (so_yR (by omega) (by rw [hr]; exact br_t rfl hpo)))⟩
  have hI2 : so_I nP nW nD nL E G 1 cd cx cy ln ct bE bA bV hea pn wd wr K O A Wt S Pl md := ⟨⟨s1, s2, s3, s4, s5, s6, s7, s8, s9⟩, Or.inr rfl, h3, h4, h5, h6, h7, h8⟩
  exact ⟨0, (nI nP, nI nW, nI nD, nI nL, nI E, nI G, 1, ac, cd, cx, cy, ln, rg, ct, bE, bA, bV, hea, pn, wd, wr, K, O, A, Wt, upd R e v2, S, Pl, nd, ar, rW, rV), (nI nP, nI nW, nI nD, nI nL, nI E, 1, cd, cx, cy, ln, rg, ct, K, O, A, Wt, upd R e v2, S, Pl, md, li, lt), so_mkR hI2, fun po hpo => so_xE1 he (by omega) (br_f (by decide) (so_xR (by omega) (by rw [hr]; exact br_f so_b1 ⟨hv, nm_e hpo⟩))), fun po hpo => br_f e0 (br_t e1 (so_yR (by omega) (by rw [hr]; exact br_f so_b1 ⟨hv, nm_e hpo⟩)))⟩
end
end
section
/-! ===== the queries ===== -/
/-- one answer of both sides -/
def so_one (X Y : (Int32 → Prop) → Prop) : Prop := ∃ r : Int32, (∀ po : Int32 → Prop, po r → X po) ∧ (∀ po : Int32 → Prop, po r → Y po)
section
variable {nP nW nD nL E G : Nat} {ra ac : Int32} {cd cx cy ln rg ct bE bA bV hea pn wd wr K O A Wt R S Pl nd ar rW rV md li lt : Nat → Int32}
theorem so_qP (hI : so_I nP nW nD nL E G ra cd cx cy ln ct bE bA bV hea pn wd wr K O A Wt S Pl md) (v1 v2 : Int32) : so_one (fun po => wpX_processor po (nI nP, nI nW, nI nD, nI nL, nI E, nI G, ra, ac, cd, cx, cy, ln, rg, ct, bE, bA, bV, hea, pn, wd, wr, K, O, A, Wt, R, S, Pl, nd, ar, rW, rV) v1 v2) (fun po => wpY_processor po (nI nP, nI nW, nI nD, nI nL, nI E, ra, cd, cx, cy, ln, rg, ct, K, O, A, Wt, R, S, Pl, md, li, lt) v1 v2) := by
  obtain ⟨⟨s1, s2, s3, s4, s5, s6, s7, s8, s9⟩, h2, h3, h4, h5, h6, h7, h8⟩ := id hI
  unfold so_one wpX_processor wpY_processor
  dsimp only
  rcases pk_ix v1 (n := nP) (by omega) with hb | hb | ⟨p, hp, rfl⟩
  · exact ⟨0, fun po hpo => so_xP0 (Or.inl hb) (br_t rfl hpo), fun po hpo => br_t hb hpo⟩
  · have hb0 : ¬ v1 < 0 := Int32.not_lt.mpr (Int32.le_trans (nI_pos' (by omega)) hb)
    exact ⟨0, fun po hpo => so_xP0 (Or.inr hb) (br_t rfl hpo), fun po hpo => br_f hb0 (br_t hb hpo)⟩
  obtain ⟨n, h, s, hn, hh, hpn, hhe, Hq⟩ := h8 p hp
  have cp := so_cl (e := p) (by omega)
  have hvp := vp_in_nI (n := p) (N := 4) (by omega) (by decide)
  have hp0 : ¬ nI p < 0 := nI_pos (by omega)
  have hpl : ¬ nI nP ≤ nI p := nI_ge hp (by omega)
  rw [cp]
  by_cases q0 : v2 < 0
  · exact ⟨0, fun po hpo => so_xP1 hp s2 (br_f (by decide) (br_t q0 hpo)), fun po hpo => br_f hp0 (br_f hpl (br_t q0 hpo))⟩
  by_cases q6 : v2 ≤ 6
  case neg => exact ⟨0, fun po hpo => so_xP1 hp s2 (br_f (by decide) (br_f q0 (br_f q6 hpo))), fun po hpo => br_f hp0 (br_f hpl (br_f q0 (br_f q6 hpo)))⟩
  by_cases z4 : v2 = 4
  · exact ⟨ct p, fun po hpo => so_xP1 hp s2 (br_f (by decide) (br_f q0 (br_t q6 (br_t z4 ⟨hvp, hpo⟩)))), fun po hpo => br_f hp0 (br_f hpl (br_f q0 (br_t q6 (br_t z4 ⟨hvp, hpo⟩))))⟩
  by_cases z5 : v2 = 5
  · exact ⟨ln p, fun po hpo => so_xP1 hp s2 (br_f (by decide) (br_f q0 (br_t q6 (br_f z4 (br_t z5 ⟨hvp, hpo⟩))))), fun po hpo => br_f hp0 (br_f hpl (br_f q0 (br_t q6 (br_f z4 (br_t z5 ⟨hvp, hpo⟩)))))⟩
  by_cases z6 : v2 = 6
  · refine ⟨pn p, fun po hpo => so_xP1 hp s2 (br_f (by decide) (br_f q0 (br_t q6 (br_f z4 (br_f z5 (br_t z6 ⟨hvp, hpo⟩)))))), fun po hpo => br_f hp0 (br_f hpl (br_f q0 (br_t q6 (br_f z4 (br_f z5 (br_t z6 (so_ypn (by omega) Hq ?_)))))))⟩
    rw [← hpn]
    exact hpo
  obtain ⟨j, hj, rfl⟩ : ∃ j, j < 4 ∧ v2 = nI j := by
    rcases so_oc q0 q6 with rfl | rfl | rfl | rfl | rfl | rfl | rfl
    · exact ⟨0, by omega, rfl⟩
    · exact ⟨1, by omega, rfl⟩
    · exact ⟨2, by omega, rfl⟩
    · exact ⟨3, by omega, rfl⟩
    · exact absurd rfl z4
    · exact absurd rfl z5
    · exact absurd rfl z6
  have cr := so_cl (e := p * 4 + j) (by omega)
  have hvr := vp_in_nI (n := p * 4 + j) (N := 16) (by omega) (by decide)
  rw [so_i4, cr]
  exact ⟨rg (p * 4 + j), fun po hpo => so_xP1 hp s2 (br_f (by decide) (br_f q0 (br_t q6 (br_f z4 (br_f z5 (br_f z6 ⟨hvr, hpo⟩)))))), fun po hpo => br_f hp0 (br_f hpl (br_f q0 (br_t q6 (br_f z4 (br_f z5 (br_f z6 ⟨hvr, hpo⟩))))))⟩
theorem so_qI (hI : so_I nP nW nD nL E G ra cd cx cy ln ct bE bA bV hea pn wd wr K O A Wt S Pl md) (v1 v2 v3 : Int32) : so_one (fun po => wpX_instruction po (nI nP, nI nW, nI nD, nI nL, nI E, nI G, ra, ac, cd, cx, cy, ln, rg, ct, bE, bA, bV, hea, pn, wd, wr, K, O, A, Wt, R, S, Pl, nd, ar, rW, rV) v1 v2 v3) (fun po => wpY_instruction po (nI nP, nI nW, nI nD, nI nL, nI E, ra, cd, cx, cy, ln, rg, ct, K, O, A, Wt, R, S, Pl, md, li, lt) v1 v2 v3) := by
  obtain ⟨⟨s1, s2, s3, s4, s5, s6, s7, s8, s9⟩, h2, h3, h4, h5, h6, h7, h8⟩ := id hI
  unfold so_one wpX_instruction wpY_instruction
  dsimp only
  rcases pk_ix v1 (n := nP) (by omega) with hb | hb | ⟨p, hp, rfl⟩
  · exact ⟨-1, fun po hpo => so_xP0 (Or.inl hb) (br_t rfl hpo), fun po hpo => br_t hb hpo⟩
  · have hb0 : ¬ v1 < 0 := Int32.not_lt.mpr (Int32.le_trans (nI_pos' (by omega)) hb)
    exact ⟨-1, fun po hpo => so_xP0 (Or.inr hb) (br_t rfl hpo), fun po hpo => br_f hb0 (br_f (Int32.not_lt.mpr hb) hpo)⟩
  obtain ⟨⟨l, hl, hln, hin⟩, _⟩ := h3 p hp
  have cp := so_cl (e := p) (by omega)
  have hvp := vp_in_nI (n := p) (N := 4) (by omega) (by decide)
  have hp0 : ¬ nI p < 0 := nI_pos (by omega)
  have hpl : nI p < nI nP := nI_lt hp (by omega)
  rw [cp, hln]
  by_cases q0 : v2 < 0
  · exact ⟨-1, fun po hpo => so_xP1 hp s2 (br_f (by decide) (br_t q0 hpo)), fun po hpo => br_f hp0 (br_t hpl (br_t q0 hpo))⟩
  by_cases ql : v2 < nI l
  case neg => exact ⟨-1, fun po hpo => so_xP1 hp s2 (br_f (by decide) (br_f q0 ⟨hvp, br_f ql hpo⟩)), fun po hpo => br_f hp0 (br_t hpl (br_f q0 ⟨hvp, br_t (Int32.not_lt.mp ql) hpo⟩))⟩
  have ql' : ¬ nI l ≤ v2 := Int32.not_le.mpr ql
  obtain ⟨i, hi, rfl⟩ : ∃ i, i < l ∧ v2 = nI i := by
    obtain ⟨j, hj, rfl⟩ := nI_of q0
    rw [nI_ltI hj (by omega)] at ql
    exact ⟨j, ql, rfl⟩
  have cs := nI_clamp (n := p * 16 + i) (by omega)
  have hvs := vp_in_nI (n := p * 16 + i) (N := 64) (by omega) (by decide)
  rw [so_i16]
  by_cases z0 : v3 = 0
  · subst z0
    refine ⟨cd (p * 16 + i), fun po hpo => so_xP1 hp s2 (br_f (by decide) (br_f q0 ⟨hvp, br_t ql (nm_e (br_t rfl ⟨hvs, ?_⟩))⟩)), fun po hpo => br_f hp0 (br_t hpl (br_f q0 ⟨hvp, br_f ql' (br_f (by decide) (br_t (by decide) (nm_e (br_t rfl ⟨hvs, ?_⟩))))⟩))⟩
    · rw [cs]
      exact hpo
    · rw [cs]
      exact hpo
  by_cases z1 : v3 = 1
  · subst z1
    refine ⟨cx (p * 16 + i), fun po hpo => so_xP1 hp s2 (br_f (by decide) (br_f q0 ⟨hvp, br_t ql (nm_e (br_f z0 (br_t rfl ⟨hvs, ?_⟩)))⟩)), fun po hpo => br_f hp0 (br_t hpl (br_f q0 ⟨hvp, br_f ql' (br_f (by decide) (br_t (by decide) (nm_e (br_f z0 (br_t rfl ⟨hvs, ?_⟩)))))⟩))⟩
    · rw [cs]
      exact hpo
    · rw [cs]
      exact hpo
  by_cases z2 : v3 = 2
  · subst z2
    refine ⟨cy (p * 16 + i), fun po hpo => so_xP1 hp s2 (br_f (by decide) (br_f q0 ⟨hvp, br_t ql (nm_e (br_f z0 (br_f z1 (br_t rfl ⟨hvs, ?_⟩))))⟩)), fun po hpo => br_f hp0 (br_t hpl (br_f q0 ⟨hvp, br_f ql' (br_f (by decide) (br_t (by decide) (nm_e (br_f z0 (br_f z1 ⟨hvs, ?_⟩)))))⟩))⟩
    · rw [cs]
      exact hpo
    · rw [cs]
      exact hpo
  refine ⟨-1, fun po hpo => so_xP1 hp s2 (br_f (by decide) (br_f q0 ⟨hvp, br_t ql (nm_e (br_f z0 (br_f z1 (br_f z2 hpo))))⟩)), fun po hpo => br_f hp0 (br_t hpl (br_f q0 ⟨hvp, br_f ql' (br_c (fun _ => hpo) (fun w0 => br_f (fun w2 => ?_) hpo))⟩))⟩
  obtain ⟨j, hj, rfl⟩ := nI_of2 (M := 2) (n := 2) (by decide) w0 w2
  obtain rfl | rfl | rfl : j = 0 ∨ j = 1 ∨ j = 2 := by omega
  · exact z0 rfl
  · exact z1 rfl
  · exact z2 rfl
theorem so_qM (hI : so_I nP nW nD nL E G ra cd cx cy ln ct bE bA bV hea pn wd wr K O A Wt S Pl md) (v1 : Int32) : so_one (fun po => wpX_memory po (nI nP, nI nW, nI nD, nI nL, nI E, nI G, ra, ac, cd, cx, cy, ln, rg, ct, bE, bA, bV, hea, pn, wd, wr, K, O, A, Wt, R, S, Pl, nd, ar, rW, rV) v1) (fun po => wpY_memory po (nI nP, nI nW, nI nD, nI nL, nI E, ra, cd, cx, cy, ln, rg, ct, K, O, A, Wt, R, S, Pl, md, li, lt) v1) := by
  obtain ⟨⟨s1, s2, s3, s4, s5, s6, s7, s8, s9⟩, h2, h3, h4, h5, h6, h7, h8⟩ := id hI
  rcases pk_ix v1 (n := nW) (by omega) with hb | hb | ⟨a, ha, rfl⟩
  · unfold so_one wpX_memory wpY_memory
    dsimp only
    exact ⟨0, fun po hpo => so_xA0 (Or.inl hb) (br_t rfl hpo), fun po hpo => br_t hb hpo⟩
  · have hb0 : ¬ v1 < 0 := Int32.not_lt.mpr (Int32.le_trans (nI_pos' (by omega)) hb)
    unfold so_one wpX_memory wpY_memory
    dsimp only
    exact ⟨0, fun po hpo => so_xA0 (Or.inr hb) (br_t rfl hpo), fun po hpo => br_f hb0 (br_f (Int32.not_lt.mpr hb) hpo)⟩
  · refine ⟨wd a, fun po hpo => ?_, fun po hpo => so_ymem s4 ha (by omega) (h7 a ha) hpo⟩
    unfold wpX_memory
    dsimp only
    rw [so_cl (e := a) (by omega)]
    exact so_xA1 ha s4 (br_f (by decide) ⟨vp_in_nI (by omega) (by decide), hpo⟩)
theorem so_qV (hI : so_I nP nW nD nL E G ra cd cx cy ln ct bE bA bV hea pn wd wr K O A Wt S Pl md) (v1 v2 : Int32) : so_one (fun po => wpX_view po (nI nP, nI nW, nI nD, nI nL, nI E, nI G, ra, ac, cd, cx, cy, ln, rg, ct, bE, bA, bV, hea, pn, wd, wr, K, O, A, Wt, R, S, Pl, nd, ar, rW, rV) v1 v2) (fun po => wpY_view po (nI nP, nI nW, nI nD, nI nL, nI E, ra, cd, cx, cy, ln, rg, ct, K, O, A, Wt, R, S, Pl, md, li, lt) v1 v2) := by
  obtain ⟨⟨s1, s2, s3, s4, s5, s6, s7, s8, s9⟩, h2, h3, h4, h5, h6, h7, h8⟩ := id hI
  unfold so_one wpX_view wpY_view
  dsimp only
  rcases pk_ix v1 (n := nP) (by omega) with hb | hb | ⟨p, hp, rfl⟩
  · exact ⟨0, fun po hpo => so_xP0 (Or.inl hb) (br_t rfl hpo), fun po hpo => br_t hb hpo⟩
  · have hb0 : ¬ v1 < 0 := Int32.not_lt.mpr (Int32.le_trans (nI_pos' (by omega)) hb)
    exact ⟨0, fun po hpo => so_xP0 (Or.inr hb) (br_t rfl hpo), fun po hpo => br_f hb0 (br_t hb hpo)⟩
  have hp0 : ¬ nI p < 0 := nI_pos (by omega)
  have hpl : ¬ nI nP ≤ nI p := nI_ge hp (by omega)
  rcases pk_ix v2 (n := nW) (by omega) with hb | hb | ⟨a, ha, rfl⟩
  · exact ⟨0, fun po hpo => so_xP1 hp s2 (br_f (by decide) (so_xA0 (Or.inl hb) (br_t rfl hpo))), fun po hpo => br_f hp0 (br_f hpl (br_t hb hpo))⟩
  · have hb0 : ¬ v2 < 0 := Int32.not_lt.mpr (Int32.le_trans (nI_pos' (by omega)) hb)
    exact ⟨0, fun po hpo => so_xP1 hp s2 (br_f (by decide) (so_xA0 (Or.inr hb) (br_t rfl hpo))), fun po hpo => br_f hp0 (br_f hpl (br_f hb0 (br_f (Int32.not_lt.mpr hb) hpo)))⟩
  obtain ⟨n, h, s, hn, hh, hpn, hhe, Hq⟩ := h8 p hp
  obtain ⟨sl, s', z, hX, hY, hz1, hz2⟩ := so_see (nP := nP) (nW := nW) (nD := nD) (nL := nL) (E := E) (G := G) (ra := ra) (ac := ac) (cd := cd) (cx := cx) (cy := cy) (ln := ln) (rg := rg) (ct := ct) (bE := bE) (bA := bA) (bV := bV) (hea := hea) (pn := pn) (wd := wd) (wr := wr) (K := K) (O := O) (A := A) (Wt := Wt) (R := R) (S := S) (Pl := Pl) (nd := nd) (ar := ar) (rW := rW) (rV := rV) (md := md) (li := li) (lt := lt) (xv := nI E) (by omega : p < 4) (by omega) hh hpn hhe (by omega) Hq (h7 a ha)
  refine ⟨z, fun po hpo => so_xP1 hp s2 (br_f (by decide) (so_xA1 ha s4 (br_f (by decide) (hX _ ?_)))), fun po hpo => br_f hp0 (br_f hpl (br_f (nI_pos (by omega)) (br_t (nI_lt ha (by omega)) (hY _ ?_))))⟩
  · rcases hz1 with ⟨rfl, rfl, rfl⟩ | ⟨t, ht, rfl, rfl, rfl⟩
    · rw [so_cl (e := a) (by omega)]
      exact br_t so_n1 ⟨vp_in_nI (by omega) (by decide), hpo⟩
    · rw [so_cl (e := t) (by omega)]
      exact br_f (so_nlt (by omega)) ⟨vp_in_nI ht (by decide), hpo⟩
  · rcases hz2 with ⟨rfl, rfl⟩ | ⟨i, hi, rfl, rfl⟩
    · exact br_f so_n1' hpo
    · rw [so_cl (e := i) (by omega)]
      exact br_t (so_nle (by omega)) ⟨vp_in_nI (by omega) (by decide), hpo⟩
theorem so_qF (hI : so_I nP nW nD nL E G ra cd cx cy ln ct bE bA bV hea pn wd wr K O A Wt S Pl md) (v1 v2 : Int32) : so_one (fun po => wpX_eventField po (nI nP, nI nW, nI nD, nI nL, nI E, nI G, ra, ac, cd, cx, cy, ln, rg, ct, bE, bA, bV, hea, pn, wd, wr, K, O, A, Wt, R, S, Pl, nd, ar, rW, rV) v1 v2) (fun po => wpY_eventField po (nI nP, nI nW, nI nD, nI nL, nI E, ra, cd, cx, cy, ln, rg, ct, K, O, A, Wt, R, S, Pl, md, li, lt) v1 v2) := by
  obtain ⟨⟨s1, s2, s3, s4, s5, s6, s7, s8, s9⟩, h2, h3, h4, h5, h6, h7, h8⟩ := id hI
  unfold so_one wpX_eventField wpY_eventField
  dsimp only
  rcases pk_ix v1 (n := E) (by omega) with hb | hb | ⟨e, he, rfl⟩
  · exact ⟨-1, fun po hpo => so_xE0 (Or.inl hb) (br_t rfl hpo), fun po hpo => br_t hb hpo⟩
  · have hb0 : ¬ v1 < 0 := Int32.not_lt.mpr (Int32.le_trans (nI_pos' (by omega)) hb)
    exact ⟨-1, fun po hpo => so_xE0 (Or.inr hb) (br_t rfl hpo), fun po hpo => br_f hb0 (br_f (Int32.not_lt.mpr hb) hpo)⟩
  have c := so_cl (e := e) (by omega)
  have hv := vp_in_nI (n := e) (N := 24) (by omega) (by decide)
  have e0 : ¬ nI e < 0 := nI_pos (by omega)
  have e1 : nI e < nI E := nI_lt he (by omega)
  rw [c]
  have out : (v2 < 0 ∨ ¬ v2 ≤ 6) → ¬ v2 = 0 ∧ ¬ v2 = 1 ∧ ¬ v2 = 2 ∧ ¬ v2 = 3 ∧ ¬ v2 = 4 ∧ ¬ v2 = 5 ∧ ¬ v2 = 6 := by
    intro hz
    refine ⟨?_, ?_, ?_, ?_, ?_, ?_, ?_⟩ <;>
      · intro w
        subst w
        rcases hz with hz | hz
        · exact absurd hz (by decide)
        · exact absurd hz (by decide)
  by_cases q0 : v2 < 0
  · obtain ⟨g0, g1, g2, g3, g4, g5, g6⟩ := out (Or.inl q0)
    exact ⟨-1, fun po hpo => so_xE1 he (by omega) (br_f (by decide) (br_t q0 hpo)), fun po hpo => br_f e0 (br_t e1 (br_f g0 (br_f g1 (br_f g2 (br_f g3 (br_f g4 (br_f g5 (br_f g6 hpo))))))))⟩
  by_cases q6 : v2 ≤ 6
  case neg =>
    obtain ⟨g0, g1, g2, g3, g4, g5, g6⟩ := out (Or.inr q6)
    exact ⟨-1, fun po hpo => so_xE1 he (by omega) (br_f (by decide) (br_f q0 (br_t (Int32.not_le.mp q6) hpo))), fun po hpo => br_f e0 (br_t e1 (br_f g0 (br_f g1 (br_f g2 (br_f g3 (br_f g4 (br_f g5 (br_f g6 hpo))))))))⟩
  have q6' : ¬ 6 < v2 := Int32.not_lt.mpr q6
  rcases so_oc q0 q6 with rfl | rfl | rfl | rfl | rfl | rfl | rfl
  · exact ⟨K e, fun po hpo => so_xE1 he (by omega) (br_f (by decide) (br_f q0 (br_f q6' (br_t rfl ⟨hv, hpo⟩)))), fun po hpo => br_f e0 (br_t e1 (br_t rfl ⟨hv, hpo⟩))⟩
  · exact ⟨O e, fun po hpo => so_xE1 he (by omega) (br_f (by decide) (br_f q0 (br_f q6' (br_f (by decide) (br_t rfl ⟨hv, hpo⟩))))), fun po hpo => br_f e0 (br_t e1 (br_f (by decide) (br_t rfl ⟨hv, hpo⟩)))⟩
  · exact ⟨A e, fun po hpo => so_xE1 he (by omega) (br_f (by decide) (br_f q0 (br_f q6' (br_f (by decide) (br_f (by decide) (br_t rfl ⟨hv, hpo⟩)))))), fun po hpo => br_f e0 (br_t e1 (br_f (by decide) (br_f (by decide) (br_t rfl ⟨hv, hpo⟩))))⟩
  · exact ⟨Wt e, fun po hpo => so_xE1 he (by omega) (br_f (by decide) (br_f q0 (br_f q6' (br_f (by decide) (br_f (by decide) (br_f (by decide) (br_t rfl ⟨hv, hpo⟩))))))), fun po hpo => br_f e0 (br_t e1 (br_f (by decide) (br_f (by decide) (br_f (by decide) (br_t rfl ⟨hv, hpo⟩)))))⟩
  · exact ⟨R e, fun po hpo => so_xE1 he (by omega) (br_f (by decide) (br_f q0 (br_f q6' (br_f (by decide) (br_f (by decide) (br_f (by decide) (br_f (by decide) (br_t rfl ⟨hv, hpo⟩)))))))), fun po hpo => br_f e0 (br_t e1 (br_f (by decide) (br_f (by decide) (br_f (by decide) (br_f (by decide) (br_t rfl ⟨hv, hpo⟩))))))⟩
  · exact ⟨S e, fun po hpo => so_xE1 he (by omega) (br_f (by decide) (br_f q0 (br_f q6' (br_f (by decide) (br_f (by decide) (br_f (by decide) (br_f (by decide) (br_f (by decide) (br_t rfl ⟨hv, hpo⟩))))))))), fun po hpo => br_f e0 (br_t e1 (br_f (by decide) (br_f (by decide) (br_f (by decide) (br_f (by decide) (br_f (by decide) (br_t rfl ⟨hv, hpo⟩)))))))⟩
  · exact ⟨Pl e, fun po hpo => so_xE1 he (by omega) (br_f (by decide) (br_f q0 (br_f q6' (br_f (by decide) (br_f (by decide) (br_f (by decide) (br_f (by decide) (br_f (by decide) (br_f (by decide) (br_t rfl ⟨hv, hpo⟩)))))))))), fun po hpo => br_f e0 (br_t e1 (br_f (by decide) (br_f (by decide) (br_f (by decide) (br_f (by decide) (br_f (by decide) (br_f (by decide) (br_t rfl ⟨hv, hpo⟩))))))))⟩
theorem so_qA (hI : so_I nP nW nD nL E G ra cd cx cy ln ct bE bA bV hea pn wd wr K O A Wt S Pl md) : so_one (fun po => wpX_altered po (nI nP, nI nW, nI nD, nI nL, nI E, nI G, ra, ac, cd, cx, cy, ln, rg, ct, bE, bA, bV, hea, pn, wd, wr, K, O, A, Wt, R, S, Pl, nd, ar, rW, rV)) (fun po => wpY_altered po (nI nP, nI nW, nI nD, nI nL, nI E, ra, cd, cx, cy, ln, rg, ct, K, O, A, Wt, R, S, Pl, md, li, lt)) := by
  obtain ⟨_, h2, _⟩ := id hI
  unfold so_one wpX_altered wpY_altered
  dsimp only
  have hn : narrow .boolean (.int ra) = .int ra := by
    rcases h2 with rfl | rfl <;> rfl
  exact ⟨ra, fun po hpo => ⟨hn, hpo⟩, fun po hpo => ⟨hn, hpo⟩⟩
/-- what the checks ask of the events -/
theorem so_evS (hI : so_I nP nW nD nL E G ra cd cx cy ln ct bE bA bV hea pn wd wr K O A Wt S Pl md) : E ≤ 24 ∧ (∀ e, e < E → S e = -1 ∨ ∃ s, s < 24 ∧ S e = nI s) ∧ (∀ e, e < E → so_M K e = true → ∃ a, a < 8 ∧ a < nW ∧ A e = nI a) ∧ (∀ e, so_W K e = true → so_M K e = true) ∧ (∀ e, so_R K e = true → so_M K e = true) := by
  obtain ⟨⟨s1, s2, s3, s4, s5, s6, s7, s8, s9⟩, h2, h3, h4, h5, h6, h7, h8⟩ := id hI
  refine ⟨by omega, fun e he => ?_, fun e he hM => ?_, fun e hw => ?_, fun e hw => ?_⟩
  · rcases (h4 e he).2.2 with g | ⟨s, g1, g2⟩
    · exact Or.inl g
    · exact Or.inr ⟨s, by omega, g2⟩
  · have : ¬ K e = 5 := by simpa [so_M] using hM
    obtain ⟨a, ha, hA⟩ := (h4 e he).2.1 this
    exact ⟨a, by omega, ha, hA⟩
  · simp only [so_W, Bool.or_eq_true, decide_eq_true_eq] at hw
    rcases hw with hw | hw <;> simp [so_M, hw]
  · simp only [so_R, Bool.or_eq_true, decide_eq_true_eq] at hw
    rcases hw with hw | hw <;> simp [so_M, hw]
theorem so_qO1 (hI : so_I nP nW nD nL E G ra cd cx cy ln ct bE bA bV hea pn wd wr K O A Wt S Pl md) {x : Nat} (h1 : 1 ≤ x) (h6 : x ≤ 6) : so_one (fun po => wpX_offender po (nI nP, nI nW, nI nD, nI nL, nI E, nI G, ra, ac, cd, cx, cy, ln, rg, ct, bE, bA, bV, hea, pn, wd, wr, K, O, A, Wt, R, S, Pl, nd, ar, rW, rV) (nI x)) (fun po => wpY_offender po (nI nP, nI nW, nI nD, nI nL, nI E, ra, cd, cx, cy, ln, rg, ct, K, O, A, Wt, R, S, Pl, md, li, lt) (nI x)) := by
  obtain ⟨hE, hS, hA, hW, _⟩ := so_evS hI
  obtain ⟨⟨s1, s2, s3, s4, s5, s6, s7, s8, s9⟩, h2, h3, h4, h5, h6', h7, h8⟩ := id hI
  unfold so_one wpX_offender wpY_offender
  dsimp only
  have x1 : ¬ nI x < 1 := nI_nlt (b := 1) h1 (by omega)
  have x6 : nI x ≤ 6 := nI_le (b := 6) h6 (by omega)
  refine ⟨so_fst (so_af K O A Wt R S Pl wd E x) E 0, fun po hpo => br_f x1 (br_t x6 ⟨E + 1, so_lfst (fun n z => wX_offender_15 po (nI x) (nI nP) (nI nW) (nI nD) (nI nL) (nI E) (nI G) ra ac cd cx cy ln rg ct bE bA bV hea pn wd wr K O A Wt R S Pl nd ar rW rV n z) po (so_af K O A Wt R S Pl wd E x) E (fun n hp => ?_) (fun n i hi ht hf => ?_) E 0 (E + 1) (by omega) (by omega) hpo⟩), fun po hpo => br_f x1 (br_t x6 ⟨E + 1, so_lfst (fun n z => wY_offender_15 po (nI x) (nI nP) (nI nW) (nI nD) (nI nL) (nI E) ra cd cx cy ln rg ct K O A Wt R S Pl md li lt n z) po (so_af K O A Wt R S Pl wd E x) E (fun n hp => ?_) (fun n i hi ht hf => ?_) E 0 (E + 1) (by omega) (by omega) hpo⟩)⟩
  · exact br_t (nI_le (Nat.le_refl _) (by omega)) hp
  · rw [wX_offender_15]
    dsimp only
    refine br_f (nI_ge hi (by omega)) (so_xaf hE hi (hS i hi) (fun w => ?_) h1 h6 (so_br (fun q => nm_r (nI_1 i) (hf q)) (fun q => ht q)))
    obtain ⟨a, g1, _, g2⟩ := hA i hi (hW i w)
    exact ⟨a, g1, g2⟩
  · exact br_t (nI_le (Nat.le_refl _) (by omega)) hp
  · rw [wY_offender_15]
    dsimp only
    refine br_f (nI_ge hi (by omega)) (so_yaf hE hi (hS i hi) (fun w => ?_) h1 h6 (so_br (fun q => nm_r (nI_1 i) (hf q)) (fun q => ht q)))
    obtain ⟨a, g1, g1', g2⟩ := hA i hi (hW i w)
    exact ⟨a, g1, g2, fun post hp => so_ymem s4 g1' hE (h7 a g1') hp⟩
theorem so_qO (hI : so_I nP nW nD nL E G ra cd cx cy ln ct bE bA bV hea pn wd wr K O A Wt S Pl md) (v1 : Int32) : so_one (fun po => wpX_offender po (nI nP, nI nW, nI nD, nI nL, nI E, nI G, ra, ac, cd, cx, cy, ln, rg, ct, bE, bA, bV, hea, pn, wd, wr, K, O, A, Wt, R, S, Pl, nd, ar, rW, rV) v1) (fun po => wpY_offender po (nI nP, nI nW, nI nD, nI nL, nI E, ra, cd, cx, cy, ln, rg, ct, K, O, A, Wt, R, S, Pl, md, li, lt) v1) := by
  by_cases q1 : v1 < 1
  · unfold so_one wpX_offender wpY_offender
    dsimp only
    exact ⟨-1, fun po hpo => br_t q1 hpo, fun po hpo => br_t q1 hpo⟩
  by_cases q6 : v1 ≤ 6
  · have q0 : ¬ v1 < 0 := fun z => q1 (Int32.lt_trans z (by decide))
    obtain ⟨j, hj, rfl⟩ := nI_of2 (M := 6) (n := 6) (by decide) q0 q6
    have : 1 ≤ j := by
      by_cases w : 1 ≤ j
      · exact w
      · obtain rfl : j = 0 := by omega
        exact absurd (by decide) q1
    exact so_qO1 hI this hj
  · unfold so_one wpX_offender wpY_offender
    dsimp only
    exact ⟨-1, fun po hpo => br_f q1 (br_f q6 hpo), fun po hpo => br_f q1 (br_f q6 hpo)⟩
theorem so_qC (hI : so_I nP nW nD nL E G ra cd cx cy ln ct bE bA bV hea pn wd wr K O A Wt S Pl md) : so_one (fun po => wpX_check po (nI nP, nI nW, nI nD, nI nL, nI E, nI G, ra, ac, cd, cx, cy, ln, rg, ct, bE, bA, bV, hea, pn, wd, wr, K, O, A, Wt, R, S, Pl, nd, ar, rW, rV)) (fun po => wpY_check po (nI nP, nI nW, nI nD, nI nL, nI E, ra, cd, cx, cy, ln, rg, ct, K, O, A, Wt, R, S, Pl, md, li, lt)) := by
  have key : ∀ k j, j + k = 7 → 1 ≤ j → ∃ r : Int32, (∀ (po : Int32 → Prop) (n : Nat), k < n → po r → wX_check_2 po (nI nP) (nI nW) (nI nD) (nI nL) (nI E) (nI G) ra ac cd cx cy ln rg ct bE bA bV hea pn wd wr K O A Wt R S Pl nd ar rW rV n (nI j)) ∧ (∀ (po : Int32 → Prop) (n : Nat), k < n → po r → wY_check_2 po (nI nP) (nI nW) (nI nD) (nI nL) (nI E) ra cd cx cy ln rg ct K O A Wt R S Pl md li lt n (nI j)) := by
    intro k
    induction k with
    | zero =>
      intro j hj h1
      obtain rfl : j = 7 := by omega
      refine ⟨0, fun po n hn hpo => ?_, fun po n hn hpo => ?_⟩
      · obtain ⟨m', rfl⟩ : ∃ m, n = m + 1 := ⟨n - 1, by omega⟩
        exact br_t (by decide) hpo
      · obtain ⟨m', rfl⟩ : ∃ m, n = m + 1 := ⟨n - 1, by omega⟩
        exact br_t (by decide) hpo
    | succ k ih =>
      intro j hj h1
      obtain ⟨r, hX, hY⟩ := ih (j + 1) (by omega) (by omega)
      obtain ⟨r1, hX1, hY1⟩ := so_qO1 (nP := nP) (nW := nW) (nD := nD) (nL := nL) (E := E) (G := G) (ra := ra) (ac := ac) (cd := cd) (cx := cx) (cy := cy) (ln := ln) (rg := rg) (ct := ct) (bE := bE) (bA := bA) (bV := bV) (hea := hea) (pn := pn) (wd := wd) (wr := wr) (K := K) (O := O) (A := A) (Wt := Wt) (R := R) (S := S) (Pl := Pl) (nd := nd) (ar := ar) (rW := rW) (rV := rV) (md := md) (li := li) (lt := lt) hI h1 (by omega : j ≤ 6)
      have j6 : ¬ 6 < nI j := nI_nlt (a := 6) (by omega) (by omega)
      by_cases q : r1 = -1
      · refine ⟨r, fun po n hn hpo => ?_, fun po n hn hpo => ?_⟩
        · obtain ⟨m', rfl⟩ : ∃ m, n = m + 1 := ⟨n - 1, by omega⟩
          rw [wX_check_2]
          dsimp only
          exact br_f j6 (hX1 _ (br_t q (nm_r (nI_1 j) (hX po m' (by omega) hpo))))
        · obtain ⟨m', rfl⟩ : ∃ m, n = m + 1 := ⟨n - 1, by omega⟩
          rw [wY_check_2]
          dsimp only
          exact br_f j6 (hY1 _ (br_t q (nm_r (nI_1 j) (hY po m' (by omega) hpo))))
      · refine ⟨nI j, fun po n hn hpo => ?_, fun po n hn hpo => ?_⟩
        · obtain ⟨m', rfl⟩ : ∃ m, n = m + 1 := ⟨n - 1, by omega⟩
          rw [wX_check_2]
          dsimp only
          exact br_f j6 (hX1 _ (br_f q hpo))
        · obtain ⟨m', rfl⟩ : ∃ m, n = m + 1 := ⟨n - 1, by omega⟩
          rw [wY_check_2]
          dsimp only
          exact br_f j6 (hY1 _ (br_f q hpo))
  obtain ⟨r, hX, hY⟩ := key 6 1 (by omega) (by omega)
  unfold so_one wpX_check wpY_check
  dsimp only
  exact ⟨r, fun po hpo => ⟨7, hX po 7 (by omega) hpo⟩, fun po hpo => ⟨7, hY po 7 (by omega) hpo⟩⟩
end
end
section
/-! ===== the queries over the arrangement ===== -/
section
variable {nP nW nD nL E G : Nat} {ra ac : Int32} {cd cx cy ln rg ct bE bA bV hea pn wd wr K O A Wt R S Pl nd ar rW rV md li lt : Nat → Int32}
theorem so_mdl (v : Int32) : (v = 0 ∨ v = 1) ∨ (¬ v = 0 ∧ ¬ v = 1) := by
  by_cases h : v = 0
  · exact Or.inl (Or.inl h)
  · by_cases h' : v = 1
    · exact Or.inl (Or.inr h')
    · exact Or.inr ⟨h, h'⟩
theorem so_xmd1 {post : Int32 → Prop} {v : Int32} (h : v = 0 ∨ v = 1) (hp : post 1) : wpX_isModel post (nI nP, nI nW, nI nD, nI nL, nI E, nI G, ra, ac, cd, cx, cy, ln, rg, ct, bE, bA, bV, hea, pn, wd, wr, K, O, A, Wt, R, S, Pl, nd, ar, rW, rV) v := by
  unfold wpX_isModel
  dsimp only
  exact br_c (fun _ => hp) (fun q => br_t (h.resolve_left q) hp)
theorem so_xmd0 {post : Int32 → Prop} {v : Int32} (h : ¬ v = 0 ∧ ¬ v = 1) (hp : post 0) : wpX_isModel post (nI nP, nI nW, nI nD, nI nL, nI E, nI G, ra, ac, cd, cx, cy, ln, rg, ct, bE, bA, bV, hea, pn, wd, wr, K, O, A, Wt, R, S, Pl, nd, ar, rW, rV) v := by
  unfold wpX_isModel
  dsimp only
  exact br_f h.1 (br_f h.2 hp)
theorem so_cons (hI : so_I nP nW nD nL E G ra cd cx cy ln ct bE bA bV hea pn wd wr K O A Wt S Pl md) (v1 : Int32) : wpX_consistent (fun r u' => wpY_consistent (fun r' v' => r' = r ∧ so_Rel u' v') (nI nP, nI nW, nI nD, nI nL, nI E, ra, cd, cx, cy, ln, rg, ct, K, O, A, Wt, R, S, Pl, md, li, lt) v1) (nI nP, nI nW, nI nD, nI nL, nI E, nI G, ra, ac, cd, cx, cy, ln, rg, ct, bE, bA, bV, hea, pn, wd, wr, K, O, A, Wt, R, S, Pl, nd, ar, rW, rV) v1 := by
  obtain ⟨hE, hS, hA, hW, _⟩ := so_evS hI
  unfold wpX_consistent
  dsimp only
  rcases so_mdl v1 with hm | hm
  · obtain ⟨N, g, hN, hg, hinj, hX, hY⟩ := so_arr (nP := nP) (nW := nW) (nD := nD) (nL := nL) (E := E) (G := G) (ra := ra) (ac := ac) (cd := cd) (cx := cx) (cy := cy) (ln := ln) (rg := rg) (ct := ct) (bE := bE) (bA := bA) (bV := bV) (hea := hea) (pn := pn) (wd := wd) (wr := wr) (K := K) (O := O) (A := A) (Wt := Wt) (R := R) (S := S) (Pl := Pl) (nd := nd) (ar := ar) (rW := rW) (rV := rV) (md := md) (li := li) (lt := lt) hm hE hS
    refine so_xmd1 hm (br_f (by decide) (hX _ (fun nd ar _ => ?_)))
    dsimp only
    refine so_xcm hE ?_
    unfold wpY_consistent
    dsimp only
    rcases hm with rfl | rfl
    · exact br_t rfl (so_ycm hE hY (fun li lt => ⟨rfl, so_mkR hI⟩))
    · exact br_f (by decide) (br_t rfl (so_ycm hE hY (fun li lt => ⟨rfl, so_mkR hI⟩)))
  · refine so_xmd0 hm (br_t rfl ?_)
    unfold wpY_consistent
    dsimp only
    exact br_f hm.1 (br_f hm.2 ⟨rfl, so_mkR hI⟩)
theorem so_arA (hI : so_I nP nW nD nL E G ra cd cx cy ln ct bE bA bV hea pn wd wr K O A Wt S Pl md) (v1 v2 : Int32) : wpX_arrangedAt (fun r u' => wpY_arrangedAt (fun r' v' => r' = r ∧ so_Rel u' v') (nI nP, nI nW, nI nD, nI nL, nI E, ra, cd, cx, cy, ln, rg, ct, K, O, A, Wt, R, S, Pl, md, li, lt) v1 v2) (nI nP, nI nW, nI nD, nI nL, nI E, nI G, ra, ac, cd, cx, cy, ln, rg, ct, bE, bA, bV, hea, pn, wd, wr, K, O, A, Wt, R, S, Pl, nd, ar, rW, rV) v1 v2 := by
  obtain ⟨hE, hS, hA, hW, _⟩ := so_evS hI
  unfold wpX_arrangedAt
  dsimp only
  rcases so_mdl v1 with hm | hm
  · obtain ⟨N, g, hN, hg, hinj, hX, hY⟩ := so_arr (nP := nP) (nW := nW) (nD := nD) (nL := nL) (E := E) (G := G) (ra := ra) (ac := ac) (cd := cd) (cx := cx) (cy := cy) (ln := ln) (rg := rg) (ct := ct) (bE := bE) (bA := bA) (bV := bV) (hea := hea) (pn := pn) (wd := wd) (wr := wr) (K := K) (O := O) (A := A) (Wt := Wt) (R := R) (S := S) (Pl := Pl) (nd := nd) (ar := ar) (rW := rW) (rV := rV) (md := md) (li := li) (lt := lt) hm hE hS
    have kY : ∀ (r : Int32) (u' : SX), (∀ po : Int32 → SY → Prop, (∀ li lt : Nat → Int32, (∀ j, j < N → li j = nI (g j)) → po r (nI nP, nI nW, nI nD, nI nL, nI E, ra, cd, cx, cy, ln, rg, ct, K, O, A, Wt, R, S, Pl, md, li, lt)) → wY_arrangedAt_11 po v1 v2 (nI nP) (nI nW) (nI nD) (nI nL) (nI E) ra cd cx cy ln rg ct K O A Wt R S Pl md li lt) → (∀ li lt : Nat → Int32, so_Rel u' (nI nP, nI nW, nI nD, nI nL, nI E, ra, cd, cx, cy, ln, rg, ct, K, O, A, Wt, R, S, Pl, md, li, lt)) → wpY_arrangedAt (fun r' v' => r' = r ∧ so_Rel u' v') (nI nP, nI nW, nI nD, nI nL, nI E, ra, cd, cx, cy, ln, rg, ct, K, O, A, Wt, R, S, Pl, md, li, lt) v1 v2 := by
      intro r u' h11 hR
      have := h11 (fun r' v' => r' = r ∧ so_Rel u' v') (fun li lt _ => ⟨rfl, hR li lt⟩)
      unfold wpY_arrangedAt
      dsimp only
      exact br_c (fun _ => this) (fun q => br_t (hm.resolve_left q) this)
    refine so_xmd1 hm (br_f (by decide) (br_c (fun q => hX _ (fun nd ar ha => ?_)) (fun q => ?_)))
    · dsimp only
      obtain ⟨j, hj, rfl⟩ := nI_of (Int32.not_lt.mpr q)
      by_cases hjN : j < N
      · have c := so_cl (e := j) (by omega)
        have hv := vp_in_nI (n := j) (N := 24) (by omega) (by decide)
        rw [c, ha j hjN]
        refine br_t (nI_lt hjN (by omega)) ⟨hv, kY _ _ (fun po hpo => ?_) (fun li lt => so_mkR hI)⟩
        unfold wY_arrangedAt_11
        refine hY _ (fun li lt hl => ?_)
        dsimp only
        rw [c, hl j hjN]
        exact br_f (nI_pos hj) (br_t (nI_lt hjN (by omega)) ⟨hv, hpo li lt hl⟩)
      · refine br_f (nI_nlt (by omega) hj) (kY _ _ (fun po hpo => ?_) (fun li lt => so_mkR hI))
        unfold wY_arrangedAt_11
        refine hY _ (fun li lt hl => ?_)
        dsimp only
        exact br_f (nI_pos hj) (br_f (nI_nlt (by omega) hj) (hpo li lt hl))
    · refine kY _ _ (fun po hpo => ?_) (fun li lt => so_mkR hI)
      unfold wY_arrangedAt_11
      refine hY _ (fun li lt hl => ?_)
      dsimp only
      exact br_t (Int32.not_le.mp q) (hpo li lt hl)
  · refine so_xmd0 hm (br_t rfl ?_)
    unfold wpY_arrangedAt
    dsimp only
    exact br_f hm.1 (br_f hm.2 ⟨rfl, so_mkR hI⟩)
theorem so_rpR (hI : so_I nP nW nD nL E G ra cd cx cy ln ct bE bA bV hea pn wd wr K O A Wt S Pl md) (v1 : Int32) : wpX_replayRead (fun r u' => wpY_replayRead (fun r' v' => r' = r ∧ so_Rel u' v') (nI nP, nI nW, nI nD, nI nL, nI E, ra, cd, cx, cy, ln, rg, ct, K, O, A, Wt, R, S, Pl, md, li, lt) v1) (nI nP, nI nW, nI nD, nI nL, nI E, nI G, ra, ac, cd, cx, cy, ln, rg, ct, bE, bA, bV, hea, pn, wd, wr, K, O, A, Wt, R, S, Pl, nd, ar, rW, rV) v1 := by
  obtain ⟨hE, hS, hA, hW, hRM⟩ := so_evS hI
  unfold wpX_replayRead
  dsimp only
  rcases pk_ix v1 (n := E) (by omega) with hb | hb | ⟨e, he, rfl⟩
  · refine so_xE0 (Or.inl hb) (br_t rfl ?_)
    unfold wpY_replayRead
    dsimp only
    exact br_t hb ⟨rfl, so_mkR hI⟩
  · have hb0 : ¬ v1 < 0 := Int32.not_lt.mpr (Int32.le_trans (nI_pos' (by omega)) hb)
    refine so_xE0 (Or.inr hb) (br_t rfl ?_)
    unfold wpY_replayRead
    dsimp only
    exact br_f hb0 (br_f (Int32.not_lt.mpr hb) ⟨rfl, so_mkR hI⟩)
  have c := so_cl (e := e) (by omega)
  have hv := vp_in_nI (n := e) (N := 24) (by omega) (by decide)
  have e0 : ¬ nI e < 0 := nI_pos (by omega)
  have e1 : nI e < nI E := nI_lt he (by omega)
  obtain ⟨N, g, hN, hg, hinj, hX, hY⟩ := so_arr (nP := nP) (nW := nW) (nD := nD) (nL := nL) (E := E) (G := G) (ra := ra) (ac := ac) (cd := cd) (cx := cx) (cy := cy) (ln := ln) (rg := rg) (ct := ct) (bE := bE) (bA := bA) (bV := bV) (hea := hea) (pn := pn) (wd := wd) (wr := wr) (K := K) (O := O) (A := A) (Wt := Wt) (R := R) (S := S) (Pl := Pl) (nd := nd) (ar := ar) (rW := rW) (rV := rV) (md := md) (li := li) (lt := lt) (m := 0) (Or.inl rfl) hE hS
  refine so_xE1 he (by omega) (br_f (by decide) (so_xR (by omega) (so_br (fun q => ?_) (fun q => ?_))))
  · unfold wpY_replayRead
    dsimp only
    refine br_f e0 (br_t e1 (so_yR (by omega) ?_))
    rw [q]
    exact br_t rfl ⟨rfl, so_mkR hI⟩
  · refine so_xrp (by omega) (fun j hj => ?_) hinj hX (fun nd ar rW rV hr => ?_)
    · obtain ⟨a, b⟩ := hg j hj
      obtain ⟨a', g1, _, g2⟩ := hA (g j) a b
      exact ⟨by omega, a', g1, g2⟩
    · dsimp only
      rw [c]
      refine ⟨hv, ?_⟩
      unfold wpY_replayRead
      dsimp only
      refine br_f e0 (br_t e1 (so_yR (by omega) ?_))
      rw [q]
      refine br_f so_b1 (hY _ (fun li lt hl => ?_))
      dsimp only
      obtain ⟨a, g1, _, g2⟩ := hA e he (hRM e q)
      obtain ⟨r1, r2, r3⟩ := hr
      refine ⟨N + 1, so_yrr (g := g) (a := a) (v := rV e) (by omega) (by omega) (fun j hj => ⟨by have := (hg j hj).1; omega, hl j hj⟩) g2 (fun j hj hge => ?_) (fun hn => ?_) ⟨rfl, so_mkR hI⟩ N 0 (N + 1) (by omega) (by omega) (fun j hj => by omega)⟩
      · subst hge
        exact r2 j hj q a g2 g1
      · exact r3 e (by omega) hn
theorem so_rpM (hI : so_I nP nW nD nL E G ra cd cx cy ln ct bE bA bV hea pn wd wr K O A Wt S Pl md) (v1 : Int32) : wpX_replayMemory (fun r u' => wpY_replayMemory (fun r' v' => r' = r ∧ so_Rel u' v') (nI nP, nI nW, nI nD, nI nL, nI E, ra, cd, cx, cy, ln, rg, ct, K, O, A, Wt, R, S, Pl, md, li, lt) v1) (nI nP, nI nW, nI nD, nI nL, nI E, nI G, ra, ac, cd, cx, cy, ln, rg, ct, bE, bA, bV, hea, pn, wd, wr, K, O, A, Wt, R, S, Pl, nd, ar, rW, rV) v1 := by
  obtain ⟨hE, hS, hA, hW, hRM⟩ := so_evS hI
  obtain ⟨⟨s1, s2, s3, s4, s5, s6, s7, s8, s9⟩, _⟩ := id hI
  unfold wpX_replayMemory
  dsimp only
  rcases pk_ix v1 (n := nW) (by omega) with hb | hb | ⟨a, ha, rfl⟩
  · refine so_xA0 (Or.inl hb) (br_t rfl ?_)
    unfold wpY_replayMemory
    dsimp only
    exact br_t hb ⟨rfl, so_mkR hI⟩
  · have hb0 : ¬ v1 < 0 := Int32.not_lt.mpr (Int32.le_trans (nI_pos' (by omega)) hb)
    refine so_xA0 (Or.inr hb) (br_t rfl ?_)
    unfold wpY_replayMemory
    dsimp only
    exact br_f hb0 (br_f (Int32.not_lt.mpr hb) ⟨rfl, so_mkR hI⟩)
  have c := so_cl (e := a) (by omega)
  have hv := vp_in_nI (n := a) (N := 8) (by omega) (by decide)
  obtain ⟨N, g, hN, hg, hinj, hX, hY⟩ := so_arr (nP := nP) (nW := nW) (nD := nD) (nL := nL) (E := E) (G := G) (ra := ra) (ac := ac) (cd := cd) (cx := cx) (cy := cy) (ln := ln) (rg := rg) (ct := ct) (bE := bE) (bA := bA) (bV := bV) (hea := hea) (pn := pn) (wd := wd) (wr := wr) (K := K) (O := O) (A := A) (Wt := Wt) (R := R) (S := S) (Pl := Pl) (nd := nd) (ar := ar) (rW := rW) (rV := rV) (md := md) (li := li) (lt := lt) (m := 0) (Or.inl rfl) hE hS
  refine so_xA1 ha s4 (br_f (by decide) (so_xrp (by omega) (fun j hj => ?_) hinj hX (fun nd ar rW rV hr => ?_)))
  · obtain ⟨a', b⟩ := hg j hj
    obtain ⟨a'', g1, _, g2⟩ := hA (g j) a' b
    exact ⟨by omega, a'', g1, g2⟩
  · dsimp only
    rw [c]
    refine ⟨hv, ?_⟩
    unfold wpY_replayMemory
    dsimp only
    refine br_f (nI_pos (by omega)) (br_t (nI_lt ha (by omega)) (hY _ (fun li lt hl => ?_)))
    dsimp only
    refine so_ywa (g := g) (by omega) (fun j hj => ⟨by have := (hg j hj).1; omega, hl j hj⟩) ⟨?_, so_mkR hI⟩
    exact (hr.1 a (by omega)).symm
end
end
section
section
variable {nP nW nD nL E G : Nat} {ra ac : Int32} {cd cx cy ln rg ct bE bA bV hea pn wd wr K O A Wt R S Pl nd ar rW rV md li lt : Nat → Int32}
theorem so_run (hI : so_I nP nW nD nL E G ra cd cx cy ln ct bE bA bV hea pn wd wr K O A Wt S Pl md) (v1 v2 : Int32) : so_both (fun po => wpX_run po (nI nP, nI nW, nI nD, nI nL, nI E, nI G, ra, ac, cd, cx, cy, ln, rg, ct, bE, bA, bV, hea, pn, wd, wr, K, O, A, Wt, R, S, Pl, nd, ar, rW, rV) v1 v2) (fun po => wpY_run po (nI nP, nI nW, nI nD, nI nL, nI E, ra, cd, cx, cy, ln, rg, ct, K, O, A, Wt, R, S, Pl, md, li, lt) v1 v2) := by
  obtain ⟨⟨s1, s2, s3, s4, s5, s6, s7, s8, s9⟩, _⟩ := id hI
  unfold so_both wpX_run wpY_run
  dsimp only
  rcases pk_ix v1 (n := nP) (by omega) with hb | hb | ⟨p, hp, rfl⟩
  · exact ⟨-2, (nI nP, nI nW, nI nD, nI nL, nI E, nI G, ra, ac, cd, cx, cy, ln, rg, ct, bE, bA, bV, hea, pn, wd, wr, K, O, A, Wt, R, S, Pl, nd, ar, rW, rV), (nI nP, nI nW, nI nD, nI nL, nI E, ra, cd, cx, cy, ln, rg, ct, K, O, A, Wt, R, S, Pl, md, li, lt), so_mkR hI, fun po hpo => so_xP0 (Or.inl hb) (br_t rfl hpo), fun po hpo => br_t hb hpo⟩
  · have hb0 : ¬ v1 < 0 := Int32.not_lt.mpr (Int32.le_trans (nI_pos' (by omega)) hb)
    exact ⟨-2, (nI nP, nI nW, nI nD, nI nL, nI E, nI G, ra, ac, cd, cx, cy, ln, rg, ct, bE, bA, bV, hea, pn, wd, wr, K, O, A, Wt, R, S, Pl, nd, ar, rW, rV), (nI nP, nI nW, nI nD, nI nL, nI E, ra, cd, cx, cy, ln, rg, ct, K, O, A, Wt, R, S, Pl, md, li, lt), so_mkR hI, fun po hpo => so_xP0 (Or.inr hb) (br_t rfl hpo), fun po hpo => br_f hb0 (br_f (Int32.not_lt.mpr hb) hpo)⟩
  obtain ⟨lim, _, hl, e⟩ := so_cmp_n v2 (lo := 0) (hi := 64) (by omega) (by omega)
  have e' : so_cmp v2 0 64 = nI lim := e
  obtain ⟨r, u', v', hR, hX, hY⟩ := so_run1 (pv := nI p) hl lim 0 (nI nP, nI nW, nI nD, nI nL, nI E, nI G, ra, ac, cd, cx, cy, ln, rg, ct, bE, bA, bV, hea, pn, wd, wr, K, O, A, Wt, R, S, Pl, nd, ar, rW, rV) (nI nP, nI nW, nI nD, nI nL, nI E, ra, cd, cx, cy, ln, rg, ct, K, O, A, Wt, R, S, Pl, md, li, lt) (by omega) (so_mkR hI)
  refine ⟨r, u', v', hR, fun po hpo => so_xP1 hp s2 (br_f (by decide) (so_xcp _ ?_)), fun po hpo => br_f (nI_pos (by omega)) (br_t (nI_lt hp (by omega)) (so_cb (fun z => ∃ n, wY_run_39 po (nI p) z n 0 (nI nP) (nI nW) (nI nD) (nI nL) (nI E) ra cd cx cy ln rg ct K O A Wt R S Pl md li lt) ?_))⟩
  · rw [e']
    exact ⟨lim + 1, hX po (lim + 1) (by omega) hpo⟩
  · rw [e']
    exact ⟨lim + 1, hY po (lim + 1) (by omega) hpo⟩
end
section
variable {nP nW nD nL E G : Nat} {ra ac : Int32} {cd cx cy ln rg ct bE bA bV hea pn wd wr K O A Wt R S Pl nd ar rW rV md li lt : Nat → Int32}
theorem so_drn (hI : so_I nP nW nD nL E G ra cd cx cy ln ct bE bA bV hea pn wd wr K O A Wt S Pl md) (v1 : Int32) : so_both (fun po => wpX_drain po (nI nP, nI nW, nI nD, nI nL, nI E, nI G, ra, ac, cd, cx, cy, ln, rg, ct, bE, bA, bV, hea, pn, wd, wr, K, O, A, Wt, R, S, Pl, nd, ar, rW, rV) v1) (fun po => wpY_drain po (nI nP, nI nW, nI nD, nI nL, nI E, ra, cd, cx, cy, ln, rg, ct, K, O, A, Wt, R, S, Pl, md, li, lt) v1) := by
  obtain ⟨⟨s1, s2, s3, s4, s5, s6, s7, s8, s9⟩, _⟩ := id hI
  have bad : v1 < 0 ∨ nI nP ≤ v1 → so_both (fun po => wpX_drain po (nI nP, nI nW, nI nD, nI nL, nI E, nI G, ra, ac, cd, cx, cy, ln, rg, ct, bE, bA, bV, hea, pn, wd, wr, K, O, A, Wt, R, S, Pl, nd, ar, rW, rV) v1) (fun po => wpY_drain po (nI nP, nI nW, nI nD, nI nL, nI E, ra, cd, cx, cy, ln, rg, ct, K, O, A, Wt, R, S, Pl, md, li, lt) v1) := by
    intro hb
    refine ⟨-2, (nI nP, nI nW, nI nD, nI nL, nI E, nI G, ra, ac, cd, cx, cy, ln, rg, ct, bE, bA, bV, hea, pn, wd, wr, K, O, A, Wt, R, S, Pl, nd, ar, rW, rV), (nI nP, nI nW, nI nD, nI nL, nI E, ra, cd, cx, cy, ln, rg, ct, K, O, A, Wt, R, S, Pl, md, li, lt), so_mkR hI, fun po hpo => ?_, fun po hpo => ?_⟩
    · unfold wpX_drain
      dsimp only
      exact so_xP0 hb (br_t rfl hpo)
    · unfold wpY_drain
      dsimp only
      by_cases z : v1 < 0
      · exact br_t z hpo
      · exact br_f z (br_f (Int32.not_lt.mpr (hb.resolve_left z)) hpo)
  rcases pk_ix v1 (n := nP) (by omega) with hb | hb | ⟨p, hp, rfl⟩
  · exact bad (Or.inl hb)
  · exact bad (Or.inr hb)
  · obtain ⟨n, _, _, h⟩ := so_drain (nP := nP) (nW := nW) (nD := nD) (nL := nL) (E := E) (G := G) (ra := ra) (ac := ac) (cd := cd) (cx := cx) (cy := cy) (ln := ln) (rg := rg) (ct := ct) (bE := bE) (bA := bA) (bV := bV) (hea := hea) (pn := pn) (wd := wd) (wr := wr) (K := K) (O := O) (A := A) (Wt := Wt) (R := R) (S := S) (Pl := Pl) (nd := nd) (ar := ar) (rW := rW) (rV := rV) (md := md) (li := li) (lt := lt) hI hp
    rcases h with ⟨_, hX, hY⟩ | ⟨m, G', wd', wr', Pl', md', hea', pn', _, _, hI', hX, hY⟩
    · exact ⟨-10, (nI nP, nI nW, nI nD, nI nL, nI E, nI G, ra, ac, cd, cx, cy, ln, rg, ct, bE, bA, bV, hea, pn, wd, wr, K, O, A, Wt, R, S, Pl, nd, ar, rW, rV), (nI nP, nI nW, nI nD, nI nL, nI E, ra, cd, cx, cy, ln, rg, ct, K, O, A, Wt, R, S, Pl, md, li, lt), so_mkR hI, hX, hY⟩
    · exact ⟨0, _, _, so_mkR (nP := nP) (nW := nW) (nD := nD) (nL := nL) (E := E) (G := G') (ra := ra) (ac := ac) (cd := cd) (cx := cx) (cy := cy) (ln := ln) (rg := rg) (ct := ct) (bE := bE) (bA := bA) (bV := bV) (hea := hea') (pn := pn') (wd := wd') (wr := wr') (K := K) (O := O) (A := A) (Wt := Wt) (R := R) (S := S) (Pl := Pl') (nd := nd) (ar := ar) (rW := rW) (rV := rV) (md := md') (li := li) (lt := lt) hI', hX, hY⟩
end
end
section
/-- the relation at the head of a turn: so_Rel, whatever the turn -/
def i_Rel (_ : Nat) (u : SX) (v : SY) : Prop := so_Rel u v
theorem i_up {k : Nat} {u : SX} {v : SY} (h : i_Rel k u v) : i_Rel (k + 5) u v := h
theorem i_vc0 (k0 : Int32) (k1 : Int32) (k2 : Int32) (k3 : Int32) : wpX_init (fun u => wpY_init (fun v => i_Rel 4 u v) k0 k1 k2 k3) k0 k1 k2 k3 := so_init k0 k1 k2 k3
theorem i_vc_addInstruction {k : Nat} {u : SX} {v : SY} (I : i_Rel k u v) (hk : k + 5 ≤ 2564) (v1 : Int32) (v2 : Int32) (v3 : Int32) (v4 : Int32) : wpX_addInstruction (fun r u' => wpY_addInstruction (fun r' v' => r' = r ∧ i_Rel (k + 5) u' v') v v1 v2 v3 v4) u v1 v2 v3 v4 := by
  refine so_el (Q := fun u v => wpX_addInstruction (fun r u' => wpY_addInstruction (fun r' v' => r' = r ∧ i_Rel (k + 5) u' v') v v1 v2 v3 v4) u v1 v2 v3 v4) ?_ I
  intro nP nW nD nL E G ra ac cd cx cy ln rg ct bE bA bV hea pn wd wr K O A Wt R S Pl nd ar rW rV md li lt hI
  obtain ⟨r, u', v', hR, hX, hY⟩ := so_addI (nP := nP) (nW := nW) (nD := nD) (nL := nL) (E := E) (G := G) (ra := ra) (ac := ac) (cd := cd) (cx := cx) (cy := cy) (ln := ln) (rg := rg) (ct := ct) (bE := bE) (bA := bA) (bV := bV) (hea := hea) (pn := pn) (wd := wd) (wr := wr) (K := K) (O := O) (A := A) (Wt := Wt) (R := R) (S := S) (Pl := Pl) (nd := nd) (ar := ar) (rW := rW) (rV := rV) (md := md) (li := li) (lt := lt) hI v1 v2 v3 v4
  exact hX _ (hY _ ⟨rfl, hR⟩)
theorem i_vc_step {k : Nat} {u : SX} {v : SY} (I : i_Rel k u v) (hk : k + 5 ≤ 2564) (v1 : Int32) : wpX_step (fun r u' => wpY_step (fun r' v' => r' = r ∧ i_Rel (k + 5) u' v') v v1) u v1 := by
  refine so_el (Q := fun u v => wpX_step (fun r u' => wpY_step (fun r' v' => r' = r ∧ i_Rel (k + 5) u' v') v v1) u v1) ?_ I
  intro nP nW nD nL E G ra ac cd cx cy ln rg ct bE bA bV hea pn wd wr K O A Wt R S Pl nd ar rW rV md li lt hI
  obtain ⟨r, u', v', hR, hX, hY⟩ := so_step (nP := nP) (nW := nW) (nD := nD) (nL := nL) (E := E) (G := G) (ra := ra) (ac := ac) (cd := cd) (cx := cx) (cy := cy) (ln := ln) (rg := rg) (ct := ct) (bE := bE) (bA := bA) (bV := bV) (hea := hea) (pn := pn) (wd := wd) (wr := wr) (K := K) (O := O) (A := A) (Wt := Wt) (R := R) (S := S) (Pl := Pl) (nd := nd) (ar := ar) (rW := rW) (rV := rV) (md := md) (li := li) (lt := lt) hI v1
  exact hX _ (hY _ ⟨rfl, hR⟩)
theorem i_vc_drain {k : Nat} {u : SX} {v : SY} (I : i_Rel k u v) (hk : k + 5 ≤ 2564) (v1 : Int32) : wpX_drain (fun r u' => wpY_drain (fun r' v' => r' = r ∧ i_Rel (k + 5) u' v') v v1) u v1 := by
  refine so_el (Q := fun u v => wpX_drain (fun r u' => wpY_drain (fun r' v' => r' = r ∧ i_Rel (k + 5) u' v') v v1) u v1) ?_ I
  intro nP nW nD nL E G ra ac cd cx cy ln rg ct bE bA bV hea pn wd wr K O A Wt R S Pl nd ar rW rV md li lt hI
  obtain ⟨r, u', v', hR, hX, hY⟩ := so_drn (nP := nP) (nW := nW) (nD := nD) (nL := nL) (E := E) (G := G) (ra := ra) (ac := ac) (cd := cd) (cx := cx) (cy := cy) (ln := ln) (rg := rg) (ct := ct) (bE := bE) (bA := bA) (bV := bV) (hea := hea) (pn := pn) (wd := wd) (wr := wr) (K := K) (O := O) (A := A) (Wt := Wt) (R := R) (S := S) (Pl := Pl) (nd := nd) (ar := ar) (rW := rW) (rV := rV) (md := md) (li := li) (lt := lt) hI v1
  exact hX _ (hY _ ⟨rfl, hR⟩)
theorem i_vc_run {k : Nat} {u : SX} {v : SY} (I : i_Rel k u v) (hk : k + 5 ≤ 2564) (v1 : Int32) (v2 : Int32) : wpX_run (fun r u' => wpY_run (fun r' v' => r' = r ∧ i_Rel (k + 5) u' v') v v1 v2) u v1 v2 := by
  refine so_el (Q := fun u v => wpX_run (fun r u' => wpY_run (fun r' v' => r' = r ∧ i_Rel (k + 5) u' v') v v1 v2) u v1 v2) ?_ I
  intro nP nW nD nL E G ra ac cd cx cy ln rg ct bE bA bV hea pn wd wr K O A Wt R S Pl nd ar rW rV md li lt hI
  obtain ⟨r, u', v', hR, hX, hY⟩ := so_run (nP := nP) (nW := nW) (nD := nD) (nL := nL) (E := E) (G := G) (ra := ra) (ac := ac) (cd := cd) (cx := cx) (cy := cy) (ln := ln) (rg := rg) (ct := ct) (bE := bE) (bA := bA) (bV := bV) (hea := hea) (pn := pn) (wd := wd) (wr := wr) (K := K) (O := O) (A := A) (Wt := Wt) (R := R) (S := S) (Pl := Pl) (nd := nd) (ar := ar) (rW := rW) (rV := rV) (md := md) (li := li) (lt := lt) hI v1 v2
  exact hX _ (hY _ ⟨rfl, hR⟩)
theorem i_vc_settle {k : Nat} {u : SX} {v : SY} (I : i_Rel k u v) (hk : k + 5 ≤ 2564) : wpX_settle (fun r u' => wpY_settle (fun r' v' => r' = r ∧ i_Rel (k + 5) u' v') v) u := by
  refine so_el (Q := fun u v => wpX_settle (fun r u' => wpY_settle (fun r' v' => r' = r ∧ i_Rel (k + 5) u' v') v) u) ?_ I
  intro nP nW nD nL E G ra ac cd cx cy ln rg ct bE bA bV hea pn wd wr K O A Wt R S Pl nd ar rW rV md li lt hI
  obtain ⟨r, u', v', hR, hX, hY⟩ := so_settle (nP := nP) (nW := nW) (nD := nD) (nL := nL) (E := E) (G := G) (ra := ra) (ac := ac) (cd := cd) (cx := cx) (cy := cy) (ln := ln) (rg := rg) (ct := ct) (bE := bE) (bA := bA) (bV := bV) (hea := hea) (pn := pn) (wd := wd) (wr := wr) (K := K) (O := O) (A := A) (Wt := Wt) (R := R) (S := S) (Pl := Pl) (nd := nd) (ar := ar) (rW := rW) (rV := rV) (md := md) (li := li) (lt := lt) hI
  exact hX _ (hY _ ⟨rfl, hR⟩)
theorem i_vc_restart {k : Nat} {u : SX} {v : SY} (I : i_Rel k u v) (hk : k + 5 ≤ 2564) : wpX_restart (fun u' => wpY_restart (fun v' => i_Rel (k + 5) u' v') v) u := by
  refine so_el (Q := fun u v => wpX_restart (fun u' => wpY_restart (fun v' => i_Rel (k + 5) u' v') v) u) ?_ I
  intro nP nW nD nL E G ra ac cd cx cy ln rg ct bE bA bV hea pn wd wr K O A Wt R S Pl nd ar rW rV md li lt hI
  obtain ⟨u', v', hR, hX, hY⟩ := so_restart (nP := nP) (nW := nW) (nD := nD) (nL := nL) (E := E) (G := G) (ra := ra) (ac := ac) (cd := cd) (cx := cx) (cy := cy) (ln := ln) (rg := rg) (ct := ct) (bE := bE) (bA := bA) (bV := bV) (hea := hea) (pn := pn) (wd := wd) (wr := wr) (K := K) (O := O) (A := A) (Wt := Wt) (R := R) (S := S) (Pl := Pl) (nd := nd) (ar := ar) (rW := rW) (rV := rV) (md := md) (li := li) (lt := lt) hI
  exact hX _ (hY _ hR)
theorem i_vc_processor {k : Nat} {u : SX} {v : SY} (I : i_Rel k u v) (hk : k + 5 ≤ 2564) (v1 : Int32) (v2 : Int32) : wpX_processor (fun r => wpY_processor (fun r' => r' = r ∧ i_Rel (k + 5) u v) v v1 v2) u v1 v2 := by
  refine so_el (Q := fun u v => wpX_processor (fun r => wpY_processor (fun r' => r' = r ∧ i_Rel (k + 5) u v) v v1 v2) u v1 v2) ?_ I
  intro nP nW nD nL E G ra ac cd cx cy ln rg ct bE bA bV hea pn wd wr K O A Wt R S Pl nd ar rW rV md li lt hI
  obtain ⟨r, hX, hY⟩ := so_qP (nP := nP) (nW := nW) (nD := nD) (nL := nL) (E := E) (G := G) (ra := ra) (ac := ac) (cd := cd) (cx := cx) (cy := cy) (ln := ln) (rg := rg) (ct := ct) (bE := bE) (bA := bA) (bV := bV) (hea := hea) (pn := pn) (wd := wd) (wr := wr) (K := K) (O := O) (A := A) (Wt := Wt) (R := R) (S := S) (Pl := Pl) (nd := nd) (ar := ar) (rW := rW) (rV := rV) (md := md) (li := li) (lt := lt) hI v1 v2
  exact hX _ (hY _ ⟨rfl, so_mkR hI⟩)
theorem i_vc_instruction {k : Nat} {u : SX} {v : SY} (I : i_Rel k u v) (hk : k + 5 ≤ 2564) (v1 : Int32) (v2 : Int32) (v3 : Int32) : wpX_instruction (fun r => wpY_instruction (fun r' => r' = r ∧ i_Rel (k + 5) u v) v v1 v2 v3) u v1 v2 v3 := by
  refine so_el (Q := fun u v => wpX_instruction (fun r => wpY_instruction (fun r' => r' = r ∧ i_Rel (k + 5) u v) v v1 v2 v3) u v1 v2 v3) ?_ I
  intro nP nW nD nL E G ra ac cd cx cy ln rg ct bE bA bV hea pn wd wr K O A Wt R S Pl nd ar rW rV md li lt hI
  obtain ⟨r, hX, hY⟩ := so_qI (nP := nP) (nW := nW) (nD := nD) (nL := nL) (E := E) (G := G) (ra := ra) (ac := ac) (cd := cd) (cx := cx) (cy := cy) (ln := ln) (rg := rg) (ct := ct) (bE := bE) (bA := bA) (bV := bV) (hea := hea) (pn := pn) (wd := wd) (wr := wr) (K := K) (O := O) (A := A) (Wt := Wt) (R := R) (S := S) (Pl := Pl) (nd := nd) (ar := ar) (rW := rW) (rV := rV) (md := md) (li := li) (lt := lt) hI v1 v2 v3
  exact hX _ (hY _ ⟨rfl, so_mkR hI⟩)
theorem i_vc_memory {k : Nat} {u : SX} {v : SY} (I : i_Rel k u v) (hk : k + 5 ≤ 2564) (v1 : Int32) : wpX_memory (fun r => wpY_memory (fun r' => r' = r ∧ i_Rel (k + 5) u v) v v1) u v1 := by
  refine so_el (Q := fun u v => wpX_memory (fun r => wpY_memory (fun r' => r' = r ∧ i_Rel (k + 5) u v) v v1) u v1) ?_ I
  intro nP nW nD nL E G ra ac cd cx cy ln rg ct bE bA bV hea pn wd wr K O A Wt R S Pl nd ar rW rV md li lt hI
  obtain ⟨r, hX, hY⟩ := so_qM (nP := nP) (nW := nW) (nD := nD) (nL := nL) (E := E) (G := G) (ra := ra) (ac := ac) (cd := cd) (cx := cx) (cy := cy) (ln := ln) (rg := rg) (ct := ct) (bE := bE) (bA := bA) (bV := bV) (hea := hea) (pn := pn) (wd := wd) (wr := wr) (K := K) (O := O) (A := A) (Wt := Wt) (R := R) (S := S) (Pl := Pl) (nd := nd) (ar := ar) (rW := rW) (rV := rV) (md := md) (li := li) (lt := lt) hI v1
  exact hX _ (hY _ ⟨rfl, so_mkR hI⟩)
theorem i_vc_view {k : Nat} {u : SX} {v : SY} (I : i_Rel k u v) (hk : k + 5 ≤ 2564) (v1 : Int32) (v2 : Int32) : wpX_view (fun r => wpY_view (fun r' => r' = r ∧ i_Rel (k + 5) u v) v v1 v2) u v1 v2 := by
  refine so_el (Q := fun u v => wpX_view (fun r => wpY_view (fun r' => r' = r ∧ i_Rel (k + 5) u v) v v1 v2) u v1 v2) ?_ I
  intro nP nW nD nL E G ra ac cd cx cy ln rg ct bE bA bV hea pn wd wr K O A Wt R S Pl nd ar rW rV md li lt hI
  obtain ⟨r, hX, hY⟩ := so_qV (nP := nP) (nW := nW) (nD := nD) (nL := nL) (E := E) (G := G) (ra := ra) (ac := ac) (cd := cd) (cx := cx) (cy := cy) (ln := ln) (rg := rg) (ct := ct) (bE := bE) (bA := bA) (bV := bV) (hea := hea) (pn := pn) (wd := wd) (wr := wr) (K := K) (O := O) (A := A) (Wt := Wt) (R := R) (S := S) (Pl := Pl) (nd := nd) (ar := ar) (rW := rW) (rV := rV) (md := md) (li := li) (lt := lt) hI v1 v2
  exact hX _ (hY _ ⟨rfl, so_mkR hI⟩)
theorem i_vc_eventCount {k : Nat} {u : SX} {v : SY} (I : i_Rel k u v) (hk : k + 5 ≤ 2564) : wpX_eventCount (fun r => wpY_eventCount (fun r' => r' = r ∧ i_Rel (k + 5) u v) v) u := by
  refine so_el (Q := fun u v => wpX_eventCount (fun r => wpY_eventCount (fun r' => r' = r ∧ i_Rel (k + 5) u v) v) u) ?_ I
  intro nP nW nD nL E G ra ac cd cx cy ln rg ct bE bA bV hea pn wd wr K O A Wt R S Pl nd ar rW rV md li lt hI
  exact ⟨rfl, so_mkR hI⟩
theorem i_vc_eventField {k : Nat} {u : SX} {v : SY} (I : i_Rel k u v) (hk : k + 5 ≤ 2564) (v1 : Int32) (v2 : Int32) : wpX_eventField (fun r => wpY_eventField (fun r' => r' = r ∧ i_Rel (k + 5) u v) v v1 v2) u v1 v2 := by
  refine so_el (Q := fun u v => wpX_eventField (fun r => wpY_eventField (fun r' => r' = r ∧ i_Rel (k + 5) u v) v v1 v2) u v1 v2) ?_ I
  intro nP nW nD nL E G ra ac cd cx cy ln rg ct bE bA bV hea pn wd wr K O A Wt R S Pl nd ar rW rV md li lt hI
  obtain ⟨r, hX, hY⟩ := so_qF (nP := nP) (nW := nW) (nD := nD) (nL := nL) (E := E) (G := G) (ra := ra) (ac := ac) (cd := cd) (cx := cx) (cy := cy) (ln := ln) (rg := rg) (ct := ct) (bE := bE) (bA := bA) (bV := bV) (hea := hea) (pn := pn) (wd := wd) (wr := wr) (K := K) (O := O) (A := A) (Wt := Wt) (R := R) (S := S) (Pl := Pl) (nd := nd) (ar := ar) (rW := rW) (rV := rV) (md := md) (li := li) (lt := lt) hI v1 v2
  exact hX _ (hY _ ⟨rfl, so_mkR hI⟩)
theorem i_vc_exchangePlaces {k : Nat} {u : SX} {v : SY} (I : i_Rel k u v) (hk : k + 5 ≤ 2564) (v1 : Int32) (v2 : Int32) : wpX_exchangePlaces (fun r u' => wpY_exchangePlaces (fun r' v' => r' = r ∧ i_Rel (k + 5) u' v') v v1 v2) u v1 v2 := by
  refine so_el (Q := fun u v => wpX_exchangePlaces (fun r u' => wpY_exchangePlaces (fun r' v' => r' = r ∧ i_Rel (k + 5) u' v') v v1 v2) u v1 v2) ?_ I
  intro nP nW nD nL E G ra ac cd cx cy ln rg ct bE bA bV hea pn wd wr K O A Wt R S Pl nd ar rW rV md li lt hI
  obtain ⟨r, u', v', hR, hX, hY⟩ := so_exP (nP := nP) (nW := nW) (nD := nD) (nL := nL) (E := E) (G := G) (ra := ra) (ac := ac) (cd := cd) (cx := cx) (cy := cy) (ln := ln) (rg := rg) (ct := ct) (bE := bE) (bA := bA) (bV := bV) (hea := hea) (pn := pn) (wd := wd) (wr := wr) (K := K) (O := O) (A := A) (Wt := Wt) (R := R) (S := S) (Pl := Pl) (nd := nd) (ar := ar) (rW := rW) (rV := rV) (md := md) (li := li) (lt := lt) hI v1 v2
  exact hX _ (hY _ ⟨rfl, hR⟩)
theorem i_vc_redirect {k : Nat} {u : SX} {v : SY} (I : i_Rel k u v) (hk : k + 5 ≤ 2564) (v1 : Int32) (v2 : Int32) : wpX_redirect (fun r u' => wpY_redirect (fun r' v' => r' = r ∧ i_Rel (k + 5) u' v') v v1 v2) u v1 v2 := by
  refine so_el (Q := fun u v => wpX_redirect (fun r u' => wpY_redirect (fun r' v' => r' = r ∧ i_Rel (k + 5) u' v') v v1 v2) u v1 v2) ?_ I
  intro nP nW nD nL E G ra ac cd cx cy ln rg ct bE bA bV hea pn wd wr K O A Wt R S Pl nd ar rW rV md li lt hI
  obtain ⟨r, u', v', hR, hX, hY⟩ := so_red (nP := nP) (nW := nW) (nD := nD) (nL := nL) (E := E) (G := G) (ra := ra) (ac := ac) (cd := cd) (cx := cx) (cy := cy) (ln := ln) (rg := rg) (ct := ct) (bE := bE) (bA := bA) (bV := bV) (hea := hea) (pn := pn) (wd := wd) (wr := wr) (K := K) (O := O) (A := A) (Wt := Wt) (R := R) (S := S) (Pl := Pl) (nd := nd) (ar := ar) (rW := rW) (rV := rV) (md := md) (li := li) (lt := lt) hI v1 v2
  exact hX _ (hY _ ⟨rfl, hR⟩)
theorem i_vc_revise {k : Nat} {u : SX} {v : SY} (I : i_Rel k u v) (hk : k + 5 ≤ 2564) (v1 : Int32) (v2 : Int32) : wpX_revise (fun r u' => wpY_revise (fun r' v' => r' = r ∧ i_Rel (k + 5) u' v') v v1 v2) u v1 v2 := by
  refine so_el (Q := fun u v => wpX_revise (fun r u' => wpY_revise (fun r' v' => r' = r ∧ i_Rel (k + 5) u' v') v v1 v2) u v1 v2) ?_ I
  intro nP nW nD nL E G ra ac cd cx cy ln rg ct bE bA bV hea pn wd wr K O A Wt R S Pl nd ar rW rV md li lt hI
  obtain ⟨r, u', v', hR, hX, hY⟩ := so_rev (nP := nP) (nW := nW) (nD := nD) (nL := nL) (E := E) (G := G) (ra := ra) (ac := ac) (cd := cd) (cx := cx) (cy := cy) (ln := ln) (rg := rg) (ct := ct) (bE := bE) (bA := bA) (bV := bV) (hea := hea) (pn := pn) (wd := wd) (wr := wr) (K := K) (O := O) (A := A) (Wt := Wt) (R := R) (S := S) (Pl := Pl) (nd := nd) (ar := ar) (rW := rW) (rV := rV) (md := md) (li := li) (lt := lt) hI v1 v2
  exact hX _ (hY _ ⟨rfl, hR⟩)
theorem i_vc_altered {k : Nat} {u : SX} {v : SY} (I : i_Rel k u v) (hk : k + 5 ≤ 2564) : wpX_altered (fun r => wpY_altered (fun r' => r' = r ∧ i_Rel (k + 5) u v) v) u := by
  refine so_el (Q := fun u v => wpX_altered (fun r => wpY_altered (fun r' => r' = r ∧ i_Rel (k + 5) u v) v) u) ?_ I
  intro nP nW nD nL E G ra ac cd cx cy ln rg ct bE bA bV hea pn wd wr K O A Wt R S Pl nd ar rW rV md li lt hI
  obtain ⟨r, hX, hY⟩ := so_qA (nP := nP) (nW := nW) (nD := nD) (nL := nL) (E := E) (G := G) (ra := ra) (ac := ac) (cd := cd) (cx := cx) (cy := cy) (ln := ln) (rg := rg) (ct := ct) (bE := bE) (bA := bA) (bV := bV) (hea := hea) (pn := pn) (wd := wd) (wr := wr) (K := K) (O := O) (A := A) (Wt := Wt) (R := R) (S := S) (Pl := Pl) (nd := nd) (ar := ar) (rW := rW) (rV := rV) (md := md) (li := li) (lt := lt) hI
  exact hX _ (hY _ ⟨rfl, so_mkR hI⟩)
theorem i_vc_offender {k : Nat} {u : SX} {v : SY} (I : i_Rel k u v) (hk : k + 5 ≤ 2564) (v1 : Int32) : wpX_offender (fun r => wpY_offender (fun r' => r' = r ∧ i_Rel (k + 5) u v) v v1) u v1 := by
  refine so_el (Q := fun u v => wpX_offender (fun r => wpY_offender (fun r' => r' = r ∧ i_Rel (k + 5) u v) v v1) u v1) ?_ I
  intro nP nW nD nL E G ra ac cd cx cy ln rg ct bE bA bV hea pn wd wr K O A Wt R S Pl nd ar rW rV md li lt hI
  obtain ⟨r, hX, hY⟩ := so_qO (nP := nP) (nW := nW) (nD := nD) (nL := nL) (E := E) (G := G) (ra := ra) (ac := ac) (cd := cd) (cx := cx) (cy := cy) (ln := ln) (rg := rg) (ct := ct) (bE := bE) (bA := bA) (bV := bV) (hea := hea) (pn := pn) (wd := wd) (wr := wr) (K := K) (O := O) (A := A) (Wt := Wt) (R := R) (S := S) (Pl := Pl) (nd := nd) (ar := ar) (rW := rW) (rV := rV) (md := md) (li := li) (lt := lt) hI v1
  exact hX _ (hY _ ⟨rfl, so_mkR hI⟩)
theorem i_vc_check {k : Nat} {u : SX} {v : SY} (I : i_Rel k u v) (hk : k + 5 ≤ 2564) : wpX_check (fun r => wpY_check (fun r' => r' = r ∧ i_Rel (k + 5) u v) v) u := by
  refine so_el (Q := fun u v => wpX_check (fun r => wpY_check (fun r' => r' = r ∧ i_Rel (k + 5) u v) v) u) ?_ I
  intro nP nW nD nL E G ra ac cd cx cy ln rg ct bE bA bV hea pn wd wr K O A Wt R S Pl nd ar rW rV md li lt hI
  obtain ⟨r, hX, hY⟩ := so_qC (nP := nP) (nW := nW) (nD := nD) (nL := nL) (E := E) (G := G) (ra := ra) (ac := ac) (cd := cd) (cx := cx) (cy := cy) (ln := ln) (rg := rg) (ct := ct) (bE := bE) (bA := bA) (bV := bV) (hea := hea) (pn := pn) (wd := wd) (wr := wr) (K := K) (O := O) (A := A) (Wt := Wt) (R := R) (S := S) (Pl := Pl) (nd := nd) (ar := ar) (rW := rW) (rV := rV) (md := md) (li := li) (lt := lt) hI
  exact hX _ (hY _ ⟨rfl, so_mkR hI⟩)
theorem i_vc_consistent {k : Nat} {u : SX} {v : SY} (I : i_Rel k u v) (hk : k + 5 ≤ 2564) (v1 : Int32) : wpX_consistent (fun r u' => wpY_consistent (fun r' v' => r' = r ∧ i_Rel (k + 5) u' v') v v1) u v1 := by
  refine so_el (Q := fun u v => wpX_consistent (fun r u' => wpY_consistent (fun r' v' => r' = r ∧ i_Rel (k + 5) u' v') v v1) u v1) ?_ I
  intro nP nW nD nL E G ra ac cd cx cy ln rg ct bE bA bV hea pn wd wr K O A Wt R S Pl nd ar rW rV md li lt hI
  exact so_cons hI v1
theorem i_vc_arrangedAt {k : Nat} {u : SX} {v : SY} (I : i_Rel k u v) (hk : k + 5 ≤ 2564) (v1 : Int32) (v2 : Int32) : wpX_arrangedAt (fun r u' => wpY_arrangedAt (fun r' v' => r' = r ∧ i_Rel (k + 5) u' v') v v1 v2) u v1 v2 := by
  refine so_el (Q := fun u v => wpX_arrangedAt (fun r u' => wpY_arrangedAt (fun r' v' => r' = r ∧ i_Rel (k + 5) u' v') v v1 v2) u v1 v2) ?_ I
  intro nP nW nD nL E G ra ac cd cx cy ln rg ct bE bA bV hea pn wd wr K O A Wt R S Pl nd ar rW rV md li lt hI
  exact so_arA hI v1 v2
theorem i_vc_replayRead {k : Nat} {u : SX} {v : SY} (I : i_Rel k u v) (hk : k + 5 ≤ 2564) (v1 : Int32) : wpX_replayRead (fun r u' => wpY_replayRead (fun r' v' => r' = r ∧ i_Rel (k + 5) u' v') v v1) u v1 := by
  refine so_el (Q := fun u v => wpX_replayRead (fun r u' => wpY_replayRead (fun r' v' => r' = r ∧ i_Rel (k + 5) u' v') v v1) u v1) ?_ I
  intro nP nW nD nL E G ra ac cd cx cy ln rg ct bE bA bV hea pn wd wr K O A Wt R S Pl nd ar rW rV md li lt hI
  exact so_rpR hI v1
theorem i_vc_replayMemory {k : Nat} {u : SX} {v : SY} (I : i_Rel k u v) (hk : k + 5 ≤ 2564) (v1 : Int32) : wpX_replayMemory (fun r u' => wpY_replayMemory (fun r' v' => r' = r ∧ i_Rel (k + 5) u' v') v v1) u v1 := by
  refine so_el (Q := fun u v => wpX_replayMemory (fun r u' => wpY_replayMemory (fun r' v' => r' = r ∧ i_Rel (k + 5) u' v') v v1) u v1) ?_ I
  intro nP nW nD nL E G ra ac cd cx cy ln rg ct bE bA bV hea pn wd wr K O A Wt R S Pl nd ar rW rV md li lt hI
  exact so_rpM hI v1
end
