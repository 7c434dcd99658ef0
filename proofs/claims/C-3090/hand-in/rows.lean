section
theorem pk_us {f : Nat → Int32} {k : Nat} {x : Int32} : upd f k x k = x := if_pos rfl
theorem pk_un {f : Nat → Int32} {k j : Nat} {x : Int32} (h : j ≠ k) : upd f k x j = f j := if_neg h
theorem pk_sub {a b : Nat} (h : b ≤ a) : nI a - nI b = nI (a - b) := by
  obtain ⟨c, rfl⟩ : ∃ c, a = c + b := ⟨a - b, by omega⟩
  rw [← nI_add, Int32.add_sub_cancel, Nat.add_sub_cancel]
theorem pk_m1 (n : Nat) : nI (n + 1) + (-1) = nI n := by
  rw [← nI_1, Int32.add_assoc, show (1 : Int32) + (-1) = 0 from rfl, Int32.add_zero]
theorem pk_mul (a b : Nat) : nI a * nI b = nI (a * b) := (Int32.ofNat_mul a b).symm
theorem pk_div {a d : Nat} (ha : a < 2 ^ 31) (h0 : 0 < d) (hd : d < 2 ^ 31) : nI a / nI d = nI (a / d) := by
  apply Int32.toInt_inj.mp
  rw [lg_idiv_nonneg (by rw [nI_toInt ha]; omega) (by rw [nI_toInt hd]; omega), nI_toInt ha, nI_toInt hd, nI_toInt (Nat.lt_of_le_of_lt (Nat.div_le_self a d) ha)]
  first | rfl | exact (Int.natCast_ediv _ _).symm
theorem pk_rem {a d : Nat} (ha : a < 2 ^ 31) (h0 : 0 < d) (hd : d < 2 ^ 31) : nI a - nI a / nI d * nI d = nI (a % d) := by
  rw [pk_div ha h0 hd, pk_mul, pk_sub (Nat.div_mul_le_self a d)]
  exact congrArg nI (by have := Nat.div_add_mod' a d; omega)
theorem pk_sub_toInt {a b : Nat} (ha : a < 2 ^ 30) (hb : b < 2 ^ 30) : (nI a - nI b).toInt = (a : Int) - b := by
  rw [Int32.toInt_sub, nI_toInt (by omega), nI_toInt (by omega)]
  exact Int.bmod_eq_of_le (by omega) (by omega)
theorem pk_sneg {a b : Nat} (hb : b < 2 ^ 30) (h : a < b) : nI a - nI b < 0 := by
  rw [Int32.lt_iff_toInt_lt, pk_sub_toInt (by omega) hb, show (0 : Int32).toInt = 0 from by decide]
  omega
theorem pk_ix (x : Int32) {n : Nat} (hn : n < 2 ^ 31) : x < 0 ∨ nI n ≤ x ∨ ∃ j : Nat, j < n ∧ x = nI j := by
  by_cases h : x < 0
  · exact Or.inl h
  · obtain ⟨j, hj, rfl⟩ := nI_of h
    by_cases h2 : j < n
    · exact Or.inr (Or.inr ⟨j, h2, rfl⟩)
    · exact Or.inr (Or.inl (nI_le (by omega) hj))
theorem pk_le {x y : Int32} {A B : Prop} (a b : Nat) (f : a ≤ b → A) (g : b < a → B) (hx : x = nI a := by rfl) (hy : y = nI b := by rfl) (ha : a < 2 ^ 31 := by omega) (hb : b < 2 ^ 31 := by omega) : (x ≤ y → A) ∧ (¬ x ≤ y → B) := by
  subst hx hy
  rw [nI_leI ha hb]
  exact ⟨f, fun z => g (by omega)⟩
theorem pk_lt {x y : Int32} {A B : Prop} (a b : Nat) (f : a < b → A) (g : b ≤ a → B) (hx : x = nI a := by rfl) (hy : y = nI b := by rfl) (ha : a < 2 ^ 31 := by omega) (hb : b < 2 ^ 31 := by omega) : (x < y → A) ∧ (¬ x < y → B) := by
  subst hx hy
  rw [nI_ltI ha hb]
  exact ⟨f, fun z => g (by omega)⟩
theorem pk_eq {x y : Int32} {A B : Prop} (a b : Nat) (f : a = b → A) (g : a ≠ b → B) (hx : x = nI a := by rfl) (hy : y = nI b := by rfl) (ha : a < 2 ^ 31 := by omega) (hb : b < 2 ^ 31 := by omega) : (x = y → A) ∧ (¬ x = y → B) := by
  subst hx hy
  rw [nI_eq ha hb]
  exact ⟨f, g⟩
theorem pk_in {x : Int32} (n N : Nat) (h : n < N) (hx : x = nI n := by rfl) (hN : N < 2 ^ 31 := by omega) : vp_in x N := by
  subst hx
  exact vp_in_nI h hN
theorem pk_cl {x : Int32} (n : Nat) (hx : x = nI n := by rfl) (h : n < 2 ^ 31 := by omega) : x.toNatClampNeg = n := by
  subst hx
  exact nI_clamp h
theorem pk_tn {n : Nat} (h : n < 2 ^ 32) : (nI n).toBitVec.toNat = n := Nat.mod_eq_of_lt h
theorem pk_and (x : Int32) {m : Int32} (k : Nat) (hm : m.toBitVec.toNat = 2 ^ k - 1) : x &&& m = nI (x.toBitVec.toNat % 2 ^ k) := by
  apply Int32.toBitVec_inj.mp
  apply BitVec.eq_of_toNat_eq
  rw [Int32.toBitVec_and, BitVec.toNat_and, hm, Nat.and_two_pow_sub_one_eq_mod]
  show _ = (BitVec.ofNat 32 _).toNat
  rw [BitVec.toNat_ofNat]
  exact (Nat.mod_eq_of_lt (Nat.lt_of_le_of_lt (Nat.mod_le _ _) x.toBitVec.isLt)).symm
theorem pk_andN {n : Nat} (h : n < 2 ^ 32) {m : Int32} (k : Nat) (hm : m.toBitVec.toNat = 2 ^ k - 1) : nI n &&& m = nI (n % 2 ^ k) := by
  rw [pk_and _ k hm, pk_tn h]
theorem pk_andE (x : Int32) {m : Int32} (k : Nat) (hm : m.toBitVec.toNat = 2 ^ k - 1) : ∃ j : Nat, j < 2 ^ k ∧ x &&& m = nI j := ⟨_, Nat.mod_lt _ (Nat.two_pow_pos k), pk_and x k hm⟩
theorem pk_andIn (x : Int32) {m : Int32} (k : Nat) (hm : m.toBitVec.toNat = 2 ^ k - 1) (hk : k ≤ 30) : vp_in (x &&& m) (2 ^ k) := by
  obtain ⟨j, hj, e⟩ := pk_andE x k hm
  rw [e]
  exact vp_in_nI hj (Nat.lt_of_le_of_lt (Nat.pow_le_pow_right (by decide) hk) (by decide))
theorem pk_shl (a s : Int32) (k : Nat) (hs : (s.toBitVec.smod 32).toNat = k) : (a <<< s).toBitVec.toNat = a.toBitVec.toNat * 2 ^ k % 2 ^ 32 := by
  show (a.toBitVec <<< (s.toBitVec.smod 32).toNat).toNat = _
  rw [hs, BitVec.toNat_shiftLeft, Nat.shiftLeft_eq]
theorem pk_shlN {n : Nat} (s : Int32) (k : Nat) (hs : (s.toBitVec.smod 32).toNat = k) (h : n * 2 ^ k < 2 ^ 32) : nI n <<< s = nI (n * 2 ^ k) := by
  apply Int32.toBitVec_inj.mp
  apply BitVec.eq_of_toNat_eq
  have hn : n < 2 ^ 32 := Nat.lt_of_le_of_lt (Nat.le_mul_of_pos_right n (Nat.two_pow_pos k)) h
  rw [pk_shl _ _ k hs, pk_tn hn, pk_tn h, Nat.mod_eq_of_lt h]
theorem pk_shr (a s : Int32) (k : Nat) (hs : (s.toBitVec.smod 32).toNat = k) : (a >>> s).toInt = a.toInt >>> k := by
  show (a.toBitVec.sshiftRight (s.toBitVec.smod 32).toNat).toInt = _
  rw [hs, BitVec.toInt_sshiftRight]
  rfl
theorem pk_shrN {n : Nat} (h : n < 2 ^ 31) (s : Int32) (k : Nat) (hs : (s.toBitVec.smod 32).toNat = k) : nI n >>> s = nI (n / 2 ^ k) := by
  apply Int32.toInt_inj.mp
  have h2 : n / 2 ^ k ≤ n := Nat.div_le_self _ _
  rw [pk_shr _ _ k hs, nI_toInt h, nI_toInt (by omega), Int.shiftRight_eq_div_pow]
  rfl
theorem pk_least (P : Nat → Prop) (h : ∃ k, P k) : ∃ k, P k ∧ ∀ j, j < k → ¬ P j := by
  obtain ⟨k, hk⟩ := h
  induction k using Nat.strongRecOn with
  | ind k ih =>
    by_cases e : ∃ j, j < k ∧ P j
    · obtain ⟨j, hj, pj⟩ := e
      exact ih j hj pj
    · exact ⟨k, hk, fun j hj pj => e ⟨j, hj, pj⟩⟩
theorem sb_m1 {p : Nat} (h : 0 < p) : nI p + (-1) = nI (p - 1) := by
  obtain ⟨q, rfl⟩ : ∃ q, p = q + 1 := ⟨p - 1, by omega⟩
  exact pk_m1 q
/-! ===== Int32 by its bits: bt x i ===== -/
def bt (x : Int32) (i : Nat) : Bool := x.toBitVec.getLsbD i
theorem b_ext {x y : Int32} (h : ∀ i, i < 32 → bt x i = bt y i) : x = y := Int32.toBitVec_inj.mp (BitVec.eq_of_getLsbD_eq (fun i hi => h i hi))
theorem b_or (x y : Int32) (i : Nat) : bt (x ||| y) i = (bt x i || bt y i) := by unfold bt; rw [Int32.toBitVec_or, BitVec.getLsbD_or]
theorem b_and (x y : Int32) (i : Nat) : bt (x &&& y) i = (bt x i && bt y i) := by unfold bt; rw [Int32.toBitVec_and, BitVec.getLsbD_and]
theorem b_xor (x y : Int32) (i : Nat) : bt (x ^^^ y) i = (bt x i ^^ bt y i) := by unfold bt; rw [Int32.toBitVec_xor, BitVec.getLsbD_xor]
theorem b_big {x : Int32} {i : Nat} (h : 32 ≤ i) : bt x i = false := BitVec.getLsbD_of_ge _ _ h
theorem b_255 (i : Nat) : bt 255 i = decide (i < 8) := by
  rcases Nat.lt_or_ge i 32 with h | h
  · exact (by decide +kernel : ∀ i, i < 32 → bt 255 i = decide (i < 8)) i h
  · rw [b_big h, decide_eq_false (by omega)]
theorem b_65535 (i : Nat) : bt 65535 i = decide (i < 16) := by
  rcases Nat.lt_or_ge i 32 with h | h
  · exact (by decide +kernel : ∀ i, i < 32 → bt 65535 i = decide (i < 16)) i h
  · rw [b_big h, decide_eq_false (by omega)]
theorem b_m1 : ∀ i, i < 32 → bt (-1) i = true := by decide +kernel
theorem b_0 (i : Nat) : bt 0 i = false := BitVec.getLsbD_zero
theorem s_l : ∀ n, n < 32 → ((nI n &&& 31).toBitVec.smod 32).toNat = n := by decide +kernel
theorem s_u : ∀ n, n < 32 → (((nI n).toUInt32 &&& Int32.toUInt32 31).toBitVec % 32).toNat = n := by decide +kernel
theorem b_shl (n : Nat) (hn : n < 32) (x : Int32) {i : Nat} (hi : i < 32) : bt (x <<< (nI n &&& 31)) i = (decide (n ≤ i) && bt x (i - n)) := by
  unfold bt
  rw [Int32.toBitVec_shiftLeft]
  show (x.toBitVec <<< ((nI n &&& 31).toBitVec.smod 32).toNat).getLsbD i = _
  rw [s_l n hn, BitVec.getLsbD_shiftLeft]
  rcases Nat.lt_or_ge i n with h | h
  · simp [h, Nat.not_le.mpr h]
  · simp [hi, h, Nat.not_lt.mpr h]
theorem b_ushr (n : Nat) (hn : n < 32) (x : Int32) (i : Nat) : bt ((x.toUInt32 >>> ((nI n).toUInt32 &&& Int32.toUInt32 31)).toInt32) i = bt x (n + i) := by
  show (x.toUInt32 >>> ((nI n).toUInt32 &&& Int32.toUInt32 31)).toBitVec.getLsbD i = x.toUInt32.toBitVec.getLsbD (n + i)
  rw [UInt32.toBitVec_shiftRight]
  show (x.toUInt32.toBitVec >>> (((nI n).toUInt32 &&& Int32.toUInt32 31).toBitVec % 32).toNat).getLsbD i = _
  rw [s_u n hn, BitVec.getLsbD_ushiftRight]
theorem b_sshr (n : Nat) (hn : n < 32) (x : Int32) {i : Nat} (hi : i < 32) : bt (x >>> (nI n &&& 31)) i = if n + i < 32 then bt x (n + i) else bt x 31 := by
  unfold bt
  rw [Int32.toBitVec_shiftRight]
  show (x.toBitVec.sshiftRight ((nI n &&& 31).toBitVec.smod 32).toNat).getLsbD i = _
  rw [s_l n hn, BitVec.getLsbD_sshiftRight, BitVec.msb_eq_getLsbD_last]
  simp [hi]
theorem b_shl8 (x : Int32) {i : Nat} (hi : i < 32) : bt (x <<< ((8 : Int32) &&& 31)) i = (decide (8 ≤ i) && bt x (i - 8)) := b_shl 8 (by omega) x hi
theorem b_shl16 (x : Int32) {i : Nat} (hi : i < 32) : bt (x <<< ((16 : Int32) &&& 31)) i = (decide (16 ≤ i) && bt x (i - 16)) := b_shl 16 (by omega) x hi
theorem b_shl24 (x : Int32) {i : Nat} (hi : i < 32) : bt (x <<< ((24 : Int32) &&& 31)) i = (decide (24 ≤ i) && bt x (i - 24)) := b_shl 24 (by omega) x hi
theorem b_sshr8 (x : Int32) {i : Nat} (hi : i < 32) : bt (x >>> ((8 : Int32) &&& 31)) i = if 8 + i < 32 then bt x (8 + i) else bt x 31 := b_sshr 8 (by omega) x hi
end
section
/-! sums over an initial segment of the naturals -/
def pc_sm (f : Nat → Nat) : Nat → Nat
  | 0 => 0
  | n + 1 => pc_sm f n + f n
def pc_b1 (b : Bool) : Nat := if b = true then 1 else 0
theorem pc_b1t : pc_b1 true = 1 := rfl
theorem pc_b1f : pc_b1 false = 0 := rfl
theorem pc_b1and (a b : Bool) : pc_b1 (a && b) = pc_b1 a * pc_b1 b := by cases a <;> cases b <;> rfl
theorem pc_sm_s (f : Nat → Nat) (n : Nat) : pc_sm f (n + 1) = pc_sm f n + f n := rfl
theorem pc_sm_congr {f g : Nat → Nat} : ∀ n, (∀ i, i < n → f i = g i) → pc_sm f n = pc_sm g n := by
  intro n
  induction n with
  | zero => intro _; rfl
  | succ n ih =>
    intro h
    rw [pc_sm_s, pc_sm_s, ih (fun i hi => h i (by omega)), h n (by omega)]
theorem pc_sm_le {f g : Nat → Nat} : ∀ n, (∀ i, i < n → f i ≤ g i) → pc_sm f n ≤ pc_sm g n := by
  intro n
  induction n with
  | zero => intro _; exact Nat.le_refl _
  | succ n ih =>
    intro h
    exact Nat.add_le_add (ih (fun i hi => h i (by omega))) (h n (by omega))
theorem pc_sm_0 {f : Nat → Nat} : ∀ n, (∀ i, i < n → f i = 0) → pc_sm f n = 0 := by
  intro n
  induction n with
  | zero => intro _; rfl
  | succ n ih =>
    intro h
    rw [pc_sm_s, ih (fun i hi => h i (by omega)), h n (by omega)]
theorem pc_sm_add (f g : Nat → Nat) : ∀ n, pc_sm (fun i => f i + g i) n = pc_sm f n + pc_sm g n := by
  intro n
  induction n with
  | zero => rfl
  | succ n ih =>
    rw [pc_sm_s, pc_sm_s, pc_sm_s, ih]
    omega
theorem pc_sm_mul (k : Nat) (f : Nat → Nat) : ∀ n, pc_sm (fun i => k * f i) n = k * pc_sm f n := by
  intro n
  induction n with
  | zero => rfl
  | succ n ih => rw [pc_sm_s, pc_sm_s, ih, Nat.mul_add]
theorem pc_sm_swap (f : Nat → Nat → Nat) (m : Nat) : ∀ n, pc_sm (fun i => pc_sm (fun j => f i j) m) n = pc_sm (fun j => pc_sm (fun i => f i j) n) m := by
  intro n
  induction n with
  | zero => exact (pc_sm_0 m (fun _ _ => rfl)).symm
  | succ n ih =>
    rw [pc_sm_s, ih]
    exact (pc_sm_add (fun j => pc_sm (fun i => f i j) n) (fun j => f n j) m).symm
theorem pc_sm_one {f : Nat → Nat} {k : Nat} : ∀ n, k < n → (∀ i, i < n → i ≠ k → f i = 0) → pc_sm f n = f k := by
  intro n
  induction n with
  | zero => intro h; omega
  | succ n ih =>
    intro hk h
    rw [pc_sm_s]
    by_cases e : k = n
    · rw [pc_sm_0 n (fun i hi => h i (by omega) (by omega)), e]
      exact Nat.zero_add _
    · rw [ih (by omega) (fun i hi hn => h i (by omega) hn), h n (by omega) (by omega)]
      rfl
theorem pc_sm_k (v : Nat) : ∀ n, pc_sm (fun _ => v) n = n * v := by
  intro n
  induction n with
  | zero => exact (Nat.zero_mul v).symm
  | succ n ih => rw [pc_sm_s, ih, Nat.succ_mul]
theorem pc_sm_ge {f : Nat → Nat} {k : Nat} : ∀ n, k < n → f k ≤ pc_sm f n := by
  intro n
  induction n with
  | zero => intro h; omega
  | succ n ih =>
    intro hk
    rw [pc_sm_s]
    by_cases e : k = n
    · rw [e]; omega
    · have := ih (by omega)
      omega
theorem pc_sm_app (f : Nat → Nat) (n : Nat) : ∀ k, pc_sm f (n + k) = pc_sm f n + pc_sm (fun b => f (n + b)) k := by
  intro k
  induction k with
  | zero => rfl
  | succ k ih =>
    rw [← Nat.add_assoc, pc_sm_s, pc_sm_s, ih]
    omega
theorem pc_sm_split (f : Nat → Nat) (k : Nat) : ∀ n, pc_sm f (n * k) = pc_sm (fun a => pc_sm (fun b => f (a * k + b)) k) n := by
  intro n
  induction n with
  | zero => rw [Nat.zero_mul]; rfl
  | succ n ih => rw [Nat.succ_mul, pc_sm_app, ih, pc_sm_s]
theorem pc_sm_rng (lo hi : Nat) : ∀ n, pc_sm (fun x => pc_b1 (decide (lo ≤ x) && decide (x ≤ hi))) n = (if n ≤ hi + 1 then n else hi + 1) - lo := by
  intro n
  induction n with
  | zero =>
    rw [if_pos (by omega)]
    show 0 = 0 - lo
    omega
  | succ n ih =>
    rw [pc_sm_s, ih]
    by_cases h1 : lo ≤ n
    · by_cases h2 : n ≤ hi
      · rw [decide_eq_true h1, decide_eq_true h2, if_pos (by omega), if_pos (by omega)]
        show n - lo + 1 = n + 1 - lo
        omega
      · rw [decide_eq_false h2, Bool.and_false, if_neg (c := n + 1 ≤ hi + 1) (by omega)]
        show (if n ≤ hi + 1 then n else hi + 1) - lo + 0 = hi + 1 - lo
        split <;> omega
    · rw [decide_eq_false h1, Bool.false_and]
      show (if n ≤ hi + 1 then n else hi + 1) - lo + 0 = (if n + 1 ≤ hi + 1 then n + 1 else hi + 1) - lo
      split <;> split <;> omega
/-! three at once -/
def pc_a3 (t : Nat → Bool) : Bool := (t 0 && t 1) && t 2
theorem pc_a3_iff {t : Nat → Bool} : pc_a3 t = true ↔ ∀ f, f < 3 → t f = true := by
  unfold pc_a3
  rw [Bool.and_eq_true, Bool.and_eq_true]
  constructor
  · intro h f hf
    rcases (show f = 0 ∨ f = 1 ∨ f = 2 by omega) with e | e | e
    · rw [e]; exact h.1.1
    · rw [e]; exact h.1.2
    · rw [e]; exact h.2
  · intro h
    exact ⟨⟨h 0 (by omega), h 1 (by omega)⟩, h 2 (by omega)⟩
/-! a packet's fields, boxes of packets -/
def pc_fd (p f : Nat) : Nat := if f = 0 then p / 64 else if f = 1 then p / 8 % 8 else p % 8
theorem pc_fd0 (p : Nat) : pc_fd p 0 = p / 64 := rfl
theorem pc_fd1 (p : Nat) : pc_fd p 1 = p / 8 % 8 := rfl
theorem pc_fd2 (p : Nat) : pc_fd p 2 = p % 8 := rfl
theorem pc_fd_le (p f : Nat) : pc_fd p f ≤ p := by
  unfold pc_fd
  split
  · omega
  · split <;> omega
theorem pc_fd_16 {p : Nat} (h : p < 1024) (f : Nat) : pc_fd p f < 16 := by
  unfold pc_fd
  split
  · omega
  · split <;> omega
theorem pc_fd_8 (p : Nat) {f : Nat} (h : f ≠ 0) : pc_fd p f < 8 := by
  unfold pc_fd
  rw [if_neg h]
  split <;> omega
def pc_rg (lo hi : Nat → Nat) (p f : Nat) : Bool := decide (lo f ≤ pc_fd p f) && decide (pc_fd p f ≤ hi f)
theorem pc_rg_iff {lo hi : Nat → Nat} {p f : Nat} : pc_rg lo hi p f = true ↔ lo f ≤ pc_fd p f ∧ pc_fd p f ≤ hi f := by
  unfold pc_rg
  rw [Bool.and_eq_true, decide_eq_true_iff, decide_eq_true_iff]
def pc_ib (lo hi : Nat → Nat) (p : Nat) : Bool := pc_a3 (pc_rg lo hi p)
theorem pc_ib_iff {lo hi : Nat → Nat} {p : Nat} : pc_ib lo hi p = true ↔ ∀ f, f < 3 → lo f ≤ pc_fd p f ∧ pc_fd p f ≤ hi f := by
  unfold pc_ib
  rw [pc_a3_iff]
  constructor
  · intro h f hf; exact pc_rg_iff.mp (h f hf)
  · intro h f hf; exact pc_rg_iff.mpr (h f hf)
def pc_vo (lo hi : Nat → Nat) : Nat := 1 * (hi 0 + 1 - lo 0) * (hi 1 + 1 - lo 1) * (hi 2 + 1 - lo 2)
theorem pc_vol {lo hi : Nat → Nat} (h0 : hi 0 < 16) (h1 : hi 1 < 8) (h2 : hi 2 < 8) : pc_sm (fun p => pc_b1 (pc_ib lo hi p)) 1024 = pc_vo lo hi := by
  have r0 : pc_sm (fun x => pc_b1 (decide (lo 0 ≤ x) && decide (x ≤ hi 0))) 16 = hi 0 + 1 - lo 0 := by
    rw [pc_sm_rng]; split <;> omega
  have r1 : pc_sm (fun x => pc_b1 (decide (lo 1 ≤ x) && decide (x ≤ hi 1))) 8 = hi 1 + 1 - lo 1 := by
    rw [pc_sm_rng]; split <;> omega
  have r2 : pc_sm (fun x => pc_b1 (decide (lo 2 ≤ x) && decide (x ≤ hi 2))) 8 = hi 2 + 1 - lo 2 := by
    rw [pc_sm_rng]; split <;> omega
  have s1 : pc_sm (fun p => pc_b1 (pc_ib lo hi p)) (128 * 8) = pc_sm (fun a => (hi 2 + 1 - lo 2) * pc_b1 ((decide (lo 0 ≤ a / 8) && decide (a / 8 ≤ hi 0)) && (decide (lo 1 ≤ a % 8) && decide (a % 8 ≤ hi 1)))) 128 := by
    rw [pc_sm_split]
    apply pc_sm_congr
    intro a _
    rw [← r2, Nat.mul_comm (pc_sm _ 8), ← pc_sm_mul]
    apply pc_sm_congr
    intro b hb
    show pc_b1 ((pc_rg lo hi (a * 8 + b) 0 && pc_rg lo hi (a * 8 + b) 1) && pc_rg lo hi (a * 8 + b) 2) = _
    refine (pc_b1and _ _).trans ?_
    unfold pc_rg
    rw [pc_fd0, pc_fd1, pc_fd2, show (a * 8 + b) / 64 = a / 8 by omega, show (a * 8 + b) / 8 % 8 = a % 8 by omega, show (a * 8 + b) % 8 = b by omega]
  have s2 : pc_sm (fun a => pc_b1 ((decide (lo 0 ≤ a / 8) && decide (a / 8 ≤ hi 0)) && (decide (lo 1 ≤ a % 8) && decide (a % 8 ≤ hi 1)))) (16 * 8) = pc_sm (fun s => (hi 1 + 1 - lo 1) * pc_b1 (decide (lo 0 ≤ s) && decide (s ≤ hi 0))) 16 := by
    rw [pc_sm_split]
    apply pc_sm_congr
    intro s _
    rw [← r1, Nat.mul_comm (pc_sm _ 8), ← pc_sm_mul]
    apply pc_sm_congr
    intro b hb
    refine (pc_b1and _ _).trans ?_
    rw [show (s * 8 + b) / 8 = s by omega, show (s * 8 + b) % 8 = b by omega]
  have e : (1024 : Nat) = 128 * 8 := rfl
  rw [e, s1, pc_sm_mul]
  have e2 : (128 : Nat) = 16 * 8 := rfl
  rw [e2, s2, pc_sm_mul, r0]
  unfold pc_vo
  rw [Nat.one_mul, Nat.mul_comm (hi 1 + 1 - lo 1) (hi 0 + 1 - lo 0)]
  exact Nat.mul_comm _ _
/-! the first index of a range that a test takes; the range's end if there is none -/
def pc_fi (b : Nat → Bool) : Nat → Nat → Nat
  | 0, s => s
  | d + 1, s => if b s = true then s else pc_fi b d (s + 1)
theorem pc_fi_t {b : Nat → Bool} {s : Nat} (d : Nat) (h : b s = true) : pc_fi b (d + 1) s = s := if_pos h
theorem pc_fi_f {b : Nat → Bool} {s : Nat} (d : Nat) (h : ¬ b s = true) : pc_fi b (d + 1) s = pc_fi b d (s + 1) := if_neg h
theorem pc_fi_spec (b : Nat → Bool) : ∀ d s, s ≤ pc_fi b d s ∧ pc_fi b d s ≤ s + d ∧ (∀ i, s ≤ i → i < pc_fi b d s → b i = false) ∧ (pc_fi b d s < s + d → b (pc_fi b d s) = true) := by
  intro d
  induction d with
  | zero =>
    intro s
    show s ≤ s ∧ s ≤ s + 0 ∧ (∀ i, s ≤ i → i < s → b i = false) ∧ (s < s + 0 → b s = true)
    refine ⟨Nat.le_refl _, Nat.le_refl _, fun i h1 h2 => ?_, fun h => ?_⟩
    · omega
    · omega
  | succ d ih =>
    intro s
    by_cases h : b s = true
    · rw [pc_fi_t d h]
      refine ⟨Nat.le_refl _, by omega, fun i h1 h2 => ?_, fun _ => h⟩
      omega
    · rw [pc_fi_f d h]
      obtain ⟨i1, i2, i3, i4⟩ := ih (s + 1)
      refine ⟨by omega, by omega, fun i h1 h2 => ?_, fun h5 => i4 (by omega)⟩
      by_cases e : i = s
      · rw [e]
        cases hb : b s with
        | false => rfl
        | true => exact absurd hb h
      · exact i3 i (by omega) h2
theorem pc_fi_uniq {b : Nat → Bool} {d s r : Nat} (h1 : s ≤ r) (h2 : r ≤ s + d) (h3 : ∀ i, s ≤ i → i < r → b i = false) (h4 : r < s + d → b r = true) : pc_fi b d s = r := by
  obtain ⟨i1, i2, i3, i4⟩ := pc_fi_spec b d s
  rcases Nat.lt_trichotomy (pc_fi b d s) r with h | h | h
  · have a := h3 _ i1 h
    have c := i4 (by omega)
    rw [a] at c
    exact absurd c (by decide)
  · exact h
  · have a := i3 _ h1 h
    have c := h4 (by omega)
    rw [a] at c
    exact absurd c (by decide)
theorem pc_fi_le (b : Nat → Bool) (c : Nat) : pc_fi b c 0 ≤ c := by
  have := (pc_fi_spec b c 0).2.1
  omega
theorem pc_fi_lo {b : Nat → Bool} {c i : Nat} (h : i < pc_fi b c 0) : b i = false := (pc_fi_spec b c 0).2.2.1 i (Nat.zero_le _) h
theorem pc_fi_at {b : Nat → Bool} {c : Nat} (h : pc_fi b c 0 < c) : b (pc_fi b c 0) = true := (pc_fi_spec b c 0).2.2.2 (by omega)
theorem pc_fi_u0 {b : Nat → Bool} {c r : Nat} (h2 : r ≤ c) (h3 : ∀ i, i < r → b i = false) (h4 : r < c → b r = true) : pc_fi b c 0 = r :=
  pc_fi_uniq (Nat.zero_le _) (by omega) (fun i _ h => h3 i h) (fun h => h4 (by omega))
theorem pc_fi_congr {b b' : Nat → Bool} {d s : Nat} (h : ∀ i, s ≤ i → i < s + d → b i = b' i) : pc_fi b d s = pc_fi b' d s := by
  obtain ⟨i1, i2, i3, i4⟩ := pc_fi_spec b' d s
  exact pc_fi_uniq i1 i2 (fun i h1 h2 => by rw [h i h1 (by omega)]; exact i3 i h1 h2) (fun h5 => by rw [h _ i1 h5]; exact i4 h5)
end
section
/-! rules over boxes: r's box is L (r * 3 + f) .. H (r * 3 + f) on field f -/
def pc_ru (L H : Nat → Nat) (r p : Nat) : Bool := pc_ib (fun f => L (r * 3 + f)) (fun f => H (r * 3 + f)) p
def pc_tf (L H : Nat → Nat) (r lo hi f : Nat) : Bool := decide (L (r * 3 + f) ≤ pc_fd hi f) && decide (pc_fd lo f ≤ H (r * 3 + f))
/-- rule r touches the box from lo to hi; it fills the box if it touches the one from hi to lo -/
def pc_tc (L H : Nat → Nat) (r lo hi : Nat) : Bool := pc_a3 (pc_tf L H r lo hi)
def pc_bx (lo hi p : Nat) : Bool := pc_ib (pc_fd lo) (pc_fd hi) p
theorem pc_tf_iff {L H : Nat → Nat} {r lo hi f : Nat} : pc_tf L H r lo hi f = true ↔ L (r * 3 + f) ≤ pc_fd hi f ∧ pc_fd lo f ≤ H (r * 3 + f) := by
  unfold pc_tf
  rw [Bool.and_eq_true, decide_eq_true_iff, decide_eq_true_iff]
theorem pc_tc_iff {L H : Nat → Nat} {r lo hi : Nat} : pc_tc L H r lo hi = true ↔ ∀ f, f < 3 → L (r * 3 + f) ≤ pc_fd hi f ∧ pc_fd lo f ≤ H (r * 3 + f) := by
  unfold pc_tc
  rw [pc_a3_iff]
  constructor
  · intro h f hf; exact pc_tf_iff.mp (h f hf)
  · intro h f hf; exact pc_tf_iff.mpr (h f hf)
theorem pc_bx_iff {lo hi p : Nat} : pc_bx lo hi p = true ↔ ∀ f, f < 3 → pc_fd lo f ≤ pc_fd p f ∧ pc_fd p f ≤ pc_fd hi f := pc_ib_iff
theorem pc_ru_iff {L H : Nat → Nat} {r p : Nat} : pc_ru L H r p = true ↔ ∀ f, f < 3 → L (r * 3 + f) ≤ pc_fd p f ∧ pc_fd p f ≤ H (r * 3 + f) := pc_ib_iff
theorem pc_tc_pp (L H : Nat → Nat) (r p : Nat) : pc_tc L H r p p = pc_ru L H r p := by
  rw [Bool.eq_iff_iff, pc_tc_iff, pc_ru_iff]
theorem pc_tc_of {L H : Nat → Nat} {r lo hi p : Nat} (hb : pc_bx lo hi p = true) (h : pc_ru L H r p = true) : pc_tc L H r lo hi = true := by
  rw [pc_tc_iff]
  rw [pc_bx_iff] at hb
  rw [pc_ru_iff] at h
  intro f hf
  have a := hb f hf
  have b := h f hf
  omega
theorem pc_ru_of {L H : Nat → Nat} {r lo hi p : Nat} (hb : pc_bx lo hi p = true) (h : pc_tc L H r hi lo = true) : pc_ru L H r p = true := by
  rw [pc_ru_iff]
  rw [pc_bx_iff] at hb
  rw [pc_tc_iff] at h
  intro f hf
  have a := hb f hf
  have b := h f hf
  omega
/-- the first rule of those that S names which holds for p -/
def pc_fr (L H : Nat → Nat) (c : Nat) (S : Nat → Bool) (p : Nat) : Nat := pc_fi (fun r => S r && pc_ru L H r p) c 0
theorem pc_and_t {a b : Bool} (h : (a && b) = true) : a = true ∧ b = true := by rw [Bool.and_eq_true] at h; exact h
theorem pc_bf {b : Bool} (h : ¬ b = true) : b = false := by cases b with | false => rfl | true => exact absurd rfl h
theorem pc_nt {b : Bool} (h : b = false) : ¬ b = true := by rw [h]; decide
/-- what liveIn makes of a set -/
def pc_Lv (c : Nat) (L H : Nat → Nat) (sb b : Nat → Bool) (lo hi : Nat) : Prop :=
  ∀ r, r < c → (b r = true ↔ sb r = true ∧ pc_tc L H r lo hi = true ∧ ∀ q, q < r → ¬ (sb q = true ∧ pc_tc L H q lo hi = true ∧ pc_tc L H q hi lo = true))
/-- a node: a box with at least one packet, and its live rules -/
def pc_Nd (c : Nat) (L H : Nat → Nat) (S : Nat → Bool) (lo hi : Nat) (b : Nat → Bool) : Prop :=
  lo < 1024 ∧ hi < 1024 ∧ (∀ f, f < 3 → pc_fd lo f ≤ pc_fd hi f) ∧ (∀ r, r < c → b r = true → pc_tc L H r lo hi = true) ∧
  (∀ p, pc_bx lo hi p = true → pc_fr L H c S p = pc_fr L H c b p)
theorem pc_live {c : Nat} {L H : Nat → Nat} {S sb b : Nat → Bool} {lo hi : Nat} (h1 : lo < 1024) (h2 : hi < 1024) (h3 : ∀ f, f < 3 → pc_fd lo f ≤ pc_fd hi f)
    (hL : pc_Lv c L H sb b lo hi) (hS : ∀ p, pc_bx lo hi p = true → pc_fr L H c S p = pc_fr L H c sb p) : pc_Nd c L H S lo hi b := by
  refine ⟨h1, h2, h3, fun r hr hb => ((hL r hr).mp hb).2.1, fun p hp => ?_⟩
  rw [hS p hp]
  symm
  unfold pc_fr
  refine pc_fi_u0 (pc_fi_le _ c) (fun i hi => ?_) (fun h => ?_)
  · have a := pc_fi_lo hi
    have hic : i < c := Nat.lt_of_lt_of_le hi (pc_fi_le _ c)
    apply pc_bf
    intro hb
    obtain ⟨x, y⟩ := pc_and_t hb
    have z := ((hL i hic).mp x).1
    have w : (sb i && pc_ru L H i p) = true := by rw [z, y]; rfl
    exact absurd w (pc_nt a)
  · obtain ⟨x, y⟩ := pc_and_t (pc_fi_at h)
    rw [Bool.and_eq_true]
    refine ⟨(hL _ h).mpr ⟨x, pc_tc_of hp y, fun q hq hh => ?_⟩, y⟩
    have a := pc_fi_lo hq
    have w : (sb q && pc_ru L H q p) = true := by rw [hh.1, pc_ru_of hp hh.2.2]; rfl
    exact absurd w (pc_nt a)
/-- a box that its first live rule fills, or that has none, is decided -/
theorem pc_leaf {c : Nat} {L H : Nat → Nat} {S b : Nat → Bool} {lo hi : Nat} (hN : pc_Nd c L H S lo hi b)
    (h : pc_fi b c 0 = c ∨ pc_tc L H (pc_fi b c 0) hi lo = true) (p : Nat) (hp : pc_bx lo hi p = true) : pc_fr L H c S p = pc_fi b c 0 := by
  rw [hN.2.2.2.2 p hp]
  unfold pc_fr
  refine pc_fi_u0 (pc_fi_le _ c) (fun i hi => ?_) (fun hc => ?_)
  · rw [pc_fi_lo hi]; rfl
  · rcases h with h | h
    · omega
    · rw [pc_fi_at hc, pc_ru_of hp h]; rfl
/-! a corner with one field set -/
def pc_wf (p f v : Nat) : Nat := if f = 0 then p % 64 + v * 64 else if f = 1 then p / 64 * 64 + v * 8 + p % 8 else p / 8 * 8 + v
theorem pc_wf0 (p v : Nat) : pc_wf p 0 v = p % 64 + v * 64 := rfl
theorem pc_wf1 (p v : Nat) : pc_wf p 1 v = p / 64 * 64 + v * 8 + p % 8 := rfl
theorem pc_wf2 (p v : Nat) : pc_wf p 2 v = p / 8 * 8 + v := rfl
theorem pc_wf_lt {p f v : Nat} (hp : p < 1024) (hf : f < 3) (hv : v < 16) (h8 : f ≠ 0 → v < 8) : pc_wf p f v < 1024 := by
  rcases (show f = 0 ∨ f = 1 ∨ f = 2 by omega) with e | e | e
  · rw [e, pc_wf0]; omega
  · have := h8 (by omega)
    rw [e, pc_wf1]; omega
  · have := h8 (by omega)
    rw [e, pc_wf2]; omega
theorem pc_fd_wf {p f v : Nat} (hf : f < 3) (h8 : f ≠ 0 → v < 8) (g : Nat) (hg : g < 3) : pc_fd (pc_wf p f v) g = if g = f then v else pc_fd p g := by
  rcases (show f = 0 ∨ f = 1 ∨ f = 2 by omega) with rfl | rfl | rfl
  · rcases (show g = 0 ∨ g = 1 ∨ g = 2 by omega) with rfl | rfl | rfl
    · rw [pc_fd0, pc_wf0, if_pos rfl]; omega
    · rw [pc_fd1, pc_fd1, pc_wf0, if_neg (by omega)]; omega
    · rw [pc_fd2, pc_fd2, pc_wf0, if_neg (by omega)]; omega
  · have := h8 (by omega)
    rcases (show g = 0 ∨ g = 1 ∨ g = 2 by omega) with rfl | rfl | rfl
    · rw [pc_fd0, pc_fd0, pc_wf1, if_neg (by omega)]; omega
    · rw [pc_fd1, pc_wf1, if_pos rfl]; omega
    · rw [pc_fd2, pc_fd2, pc_wf1, if_neg (by omega)]; omega
  · have := h8 (by omega)
    rcases (show g = 0 ∨ g = 1 ∨ g = 2 by omega) with rfl | rfl | rfl
    · rw [pc_fd0, pc_fd0, pc_wf2, if_neg (by omega)]; omega
    · rw [pc_fd1, pc_fd1, pc_wf2, if_neg (by omega)]; omega
    · rw [pc_fd2, pc_wf2, if_pos rfl]; omega
/-- the left half of a cut -/
theorem pc_cutL {lo hi f a : Nat} (hf : f < 3) (h1 : pc_fd lo f < a) (h2 : a ≤ pc_fd hi f) (p : Nat) :
    pc_bx lo (pc_wf hi f (a - 1)) p = true ↔ pc_bx lo hi p = true ∧ pc_fd p f < a := by
  have h8 : f ≠ 0 → a - 1 < 8 := fun h => by have := pc_fd_8 hi h; omega
  rw [pc_bx_iff, pc_bx_iff]
  constructor
  · intro h
    have hx := h f hf
    rw [pc_fd_wf hf h8 f hf, if_pos rfl] at hx
    refine ⟨fun g hg => ?_, by omega⟩
    have hy := h g hg
    rw [pc_fd_wf hf h8 g hg] at hy
    by_cases e : g = f
    · rw [e]; omega
    · rw [if_neg e] at hy; exact hy
  · rintro ⟨h, hx⟩ g hg
    have hy := h g hg
    rw [pc_fd_wf hf h8 g hg]
    by_cases e : g = f
    · rw [if_pos e]
      rw [e] at hy ⊢
      omega
    · rw [if_neg e]; exact hy
/-- and its right half -/
theorem pc_cutR {lo hi f a : Nat} (hf : f < 3) (h1 : pc_fd lo f < a) (h2 : a ≤ pc_fd hi f) (p : Nat) :
    pc_bx (pc_wf lo f a) hi p = true ↔ pc_bx lo hi p = true ∧ a ≤ pc_fd p f := by
  have h8 : f ≠ 0 → a < 8 := fun h => by have := pc_fd_8 hi h; omega
  rw [pc_bx_iff, pc_bx_iff]
  constructor
  · intro h
    have hx := h f hf
    rw [pc_fd_wf hf h8 f hf, if_pos rfl] at hx
    refine ⟨fun g hg => ?_, by omega⟩
    have hy := h g hg
    rw [pc_fd_wf hf h8 g hg] at hy
    by_cases e : g = f
    · rw [e]; omega
    · rw [if_neg e] at hy; exact hy
  · rintro ⟨h, hx⟩ g hg
    have hy := h g hg
    rw [pc_fd_wf hf h8 g hg]
    by_cases e : g = f
    · rw [if_pos e]
      rw [e] at hy ⊢
      omega
    · rw [if_neg e]; exact hy
/-- both halves have a packet -/
theorem pc_cut_ne {lo hi f a : Nat} (hf : f < 3) (h0 : ∀ g, g < 3 → pc_fd lo g ≤ pc_fd hi g) (h1 : pc_fd lo f < a) (h2 : a ≤ pc_fd hi f) :
    (∀ g, g < 3 → pc_fd lo g ≤ pc_fd (pc_wf hi f (a - 1)) g) ∧ (∀ g, g < 3 → pc_fd (pc_wf lo f a) g ≤ pc_fd hi g) := by
  have h8 : f ≠ 0 → a < 8 := fun h => by have := pc_fd_8 hi h; omega
  have h8' : f ≠ 0 → a - 1 < 8 := fun h => by have := h8 h; omega
  constructor
  · intro g hg
    rw [pc_fd_wf hf h8' g hg]
    by_cases e : g = f
    · rw [if_pos e, e]; omega
    · rw [if_neg e]; exact h0 g hg
  · intro g hg
    rw [pc_fd_wf hf h8 g hg]
    by_cases e : g = f
    · rw [if_pos e, e]; omega
    · rw [if_neg e]; exact h0 g hg
/-- a rule that touches a box but doesn't fill it has an edge within -/
theorem pc_edge {L H : Nat → Nat} {r lo hi : Nat} (h : pc_tc L H r lo hi = true) (hn : ¬ pc_tc L H r hi lo = true) :
    ∃ f, f < 3 ∧ ((pc_fd lo f < L (r * 3 + f) ∧ L (r * 3 + f) ≤ pc_fd hi f) ∨ (pc_fd lo f < H (r * 3 + f) + 1 ∧ H (r * 3 + f) + 1 ≤ pc_fd hi f)) := by
  rw [pc_tc_iff] at h
  by_cases e : ∃ f, f < 3 ∧ ((pc_fd lo f < L (r * 3 + f) ∧ L (r * 3 + f) ≤ pc_fd hi f) ∨ (pc_fd lo f < H (r * 3 + f) + 1 ∧ H (r * 3 + f) + 1 ≤ pc_fd hi f))
  · exact e
  · exfalso
    apply hn
    rw [pc_tc_iff]
    intro f hf
    have a := h f hf
    by_cases x : L (r * 3 + f) ≤ pc_fd lo f
    · by_cases y : pc_fd hi f ≤ H (r * 3 + f)
      · exact ⟨x, y⟩
      · exact absurd ⟨f, hf, Or.inr ⟨by omega, by omega⟩⟩ e
    · exact absurd ⟨f, hf, Or.inl ⟨by omega, by omega⟩⟩ e
end
section
/-! the tree: N nodes, those before n cut or found decided; lt j = 0: node j is a leaf; lf p: the leaf that has packet p -/
def pc_TI (c : Nat) (L H : Nat → Nat) (S : Nat → Bool) (N n : Nat) (lw hg : Nat → Nat) (lb : Nat → Nat → Bool) (lt cf ca lf : Nat → Nat) : Prop :=
  n ≤ N ∧
  (∀ j, j < N → pc_Nd c L H S (lw j) (hg j) (lb j)) ∧
  (∀ j, j < N → lt j ≠ 0 → j < n ∧ j < lt j ∧ lt j + 1 < N ∧ cf j < 3 ∧ ca j < 17 ∧
    ∀ p, pc_bx (lw j) (hg j) p = true → (pc_fd p (cf j) < ca j → pc_bx (lw (lt j)) (hg (lt j)) p = true) ∧ (ca j ≤ pc_fd p (cf j) → pc_bx (lw (lt j + 1)) (hg (lt j + 1)) p = true)) ∧
  (∀ j, j < n → lt j = 0 → pc_fi (lb j) c 0 = c ∨ pc_tc L H (pc_fi (lb j) c 0) (hg j) (lw j) = true) ∧
  (∀ p, p < 1024 → pc_bx (lw 0) (hg 0) p = true ∧ lf p < N ∧ lt (lf p) = 0 ∧ ∀ j, j < N → lt j = 0 → (pc_bx (lw j) (hg j) p = true ↔ lf p = j)) ∧
  2 * pc_sm (fun j => pc_b1 (decide (lt j = 0))) N = N + 1
section
variable {c : Nat} {L H : Nat → Nat} {S : Nat → Bool} {N n : Nat} {lw hg : Nat → Nat} {lb : Nat → Nat → Bool} {lt cf ca lf : Nat → Nat}
theorem pc_TI_open (T : pc_TI c L H S N n lw hg lb lt cf ca lf) (hn : n < N) : lt n = 0 := by
  by_cases e : lt n = 0
  · exact e
  · have := (T.2.2.1 n hn e).1
    omega
theorem pc_bx_lo {lo hi : Nat} (h : ∀ f, f < 3 → pc_fd lo f ≤ pc_fd hi f) : pc_bx lo hi lo = true := pc_bx_iff.mpr (fun f hf => ⟨Nat.le_refl _, h f hf⟩)
theorem pc_TI_sum (T : pc_TI c L H S N n lw hg lb lt cf ca lf) (K q : Nat → Bool) :
    pc_sm (fun j => pc_b1 (decide (lt j = 0) && K j) * pc_sm (fun p => pc_b1 (pc_bx (lw j) (hg j) p && q p)) 1024) N = pc_sm (fun p => pc_b1 (K (lf p) && q p)) 1024 := by
  have s1 : pc_sm (fun j => pc_b1 (decide (lt j = 0) && K j) * pc_sm (fun p => pc_b1 (pc_bx (lw j) (hg j) p && q p)) 1024) N
      = pc_sm (fun j => pc_sm (fun p => pc_b1 (decide (lt j = 0) && K j) * pc_b1 (pc_bx (lw j) (hg j) p && q p)) 1024) N :=
    pc_sm_congr N (fun j _ => (pc_sm_mul _ _ _).symm)
  rw [s1, pc_sm_swap (fun j p => pc_b1 (decide (lt j = 0) && K j) * pc_b1 (pc_bx (lw j) (hg j) p && q p)) 1024 N]
  apply pc_sm_congr
  intro p hp
  obtain ⟨_, h1, h2, h3⟩ := T.2.2.2.2.1 p hp
  refine (pc_sm_one (k := lf p) N h1 (fun j hj hne => ?_)).trans ?_
  · by_cases e : lt j = 0
    · have hb : pc_bx (lw j) (hg j) p = false := pc_bf (fun hh => hne ((h3 j hj e).mp hh).symm)
      rw [hb, Bool.false_and]
      exact Nat.mul_zero _
    · rw [decide_eq_false e, Bool.false_and]
      exact Nat.zero_mul _
  · have hb : pc_bx (lw (lf p)) (hg (lf p)) p = true := (h3 _ h1 h2).mpr rfl
    show pc_b1 (decide (lt (lf p) = 0) && K (lf p)) * pc_b1 (pc_bx (lw (lf p)) (hg (lf p)) p && q p) = _
    rw [hb, decide_eq_true h2, Bool.true_and, Bool.true_and, pc_b1and]
theorem pc_sm_ge2 {f : Nat → Nat} {k l : Nat} (hkl : k ≠ l) : ∀ n, k < n → l < n → f k + f l ≤ pc_sm f n := by
  intro n
  induction n with
  | zero => intro h; omega
  | succ n ih =>
    intro hk hl
    rw [pc_sm_s]
    by_cases e : k = n
    · have := pc_sm_ge (f := f) (k := l) n (by omega)
      rw [e]; omega
    · by_cases e2 : l = n
      · have := pc_sm_ge (f := f) (k := k) n (by omega)
        rw [e2]; omega
      · have := ih (by omega) (by omega)
        omega
theorem pc_TI_room (T : pc_TI c L H S N n lw hg lb lt cf ca lf) (hn : n < N) {f a : Nat} (hf : f < 3) (h1 : pc_fd (lw n) f < a) (h2 : a ≤ pc_fd (hg n) f) : N + 1 < 2047 := by
  have hs := pc_TI_sum T (fun _ => true) (fun _ => true)
  have hr : pc_sm (fun p => pc_b1 (true && true)) 1024 = 1024 := pc_sm_k 1 1024
  rw [hr] at hs
  have hle : pc_sm (fun j => pc_b1 (decide (lt j = 0)) + pc_b1 (decide (j = n))) N ≤ pc_sm (fun j => pc_b1 (decide (lt j = 0) && true) * pc_sm (fun p => pc_b1 (pc_bx (lw j) (hg j) p && true)) 1024) N := by
    apply pc_sm_le
    intro j hj
    obtain ⟨n1, n2, n3, _, _⟩ := T.2.1 j hj
    by_cases e : lt j = 0
    · rw [decide_eq_true e]
      show 1 + pc_b1 (decide (j = n)) ≤ 1 * pc_sm (fun p => pc_b1 (pc_bx (lw j) (hg j) p && true)) 1024
      rw [Nat.one_mul]
      have hb : pc_b1 (pc_bx (lw j) (hg j) (lw j) && true) = 1 := by rw [pc_bx_lo n3]; rfl
      by_cases ej : j = n
      · rw [decide_eq_true ej]
        subst ej
        have hlo : pc_wf (lw j) f a < 1024 := pc_wf_lt n1 hf (by have := pc_fd_16 n2 f; omega) (fun h => by have := pc_fd_8 (hg j) h; omega)
        have hb2 : pc_bx (lw j) (hg j) (pc_wf (lw j) f a) = true := ((pc_cutR hf h1 h2 _).mp (pc_bx_lo (pc_cut_ne hf n3 h1 h2).2)).1
        have hne : lw j ≠ pc_wf (lw j) f a := by
          intro e9
          have e8 := pc_fd_wf (p := lw j) (v := a) hf (fun h => by have := pc_fd_8 (hg j) h; omega) f hf
          rw [if_pos rfl, ← e9] at e8
          omega
        have g := pc_sm_ge2 (f := fun p => pc_b1 (pc_bx (lw j) (hg j) p && true)) hne 1024 n1 hlo
        have hb3 : pc_b1 (pc_bx (lw j) (hg j) (pc_wf (lw j) f a) && true) = 1 := by rw [hb2]; rfl
        have g2 : pc_b1 (pc_bx (lw j) (hg j) (lw j) && true) + pc_b1 (pc_bx (lw j) (hg j) (pc_wf (lw j) f a) && true) ≤ pc_sm (fun p => pc_b1 (pc_bx (lw j) (hg j) p && true)) 1024 := g
        rw [hb, hb3] at g2
        exact g2
      · rw [decide_eq_false ej]
        have g := pc_sm_ge (f := fun p => pc_b1 (pc_bx (lw j) (hg j) p && true)) 1024 n1
        have g2 : pc_b1 (pc_bx (lw j) (hg j) (lw j) && true) ≤ pc_sm (fun p => pc_b1 (pc_bx (lw j) (hg j) p && true)) 1024 := g
        rw [hb] at g2
        exact g2
    · have ej : j ≠ n := fun z => e (by rw [z]; exact pc_TI_open T hn)
      rw [decide_eq_false e, decide_eq_false ej]
      exact Nat.zero_le _
  have ha := pc_sm_add (fun j => pc_b1 (decide (lt j = 0))) (fun j => pc_b1 (decide (j = n))) N
  have ho : pc_sm (fun j => pc_b1 (decide (j = n))) N = pc_b1 (decide (n = n)) := pc_sm_one (f := fun j => pc_b1 (decide (j = n))) N hn (fun j _ hne => by show pc_b1 (decide (j = n)) = 0; rw [decide_eq_false hne]; rfl)
  rw [decide_eq_true rfl, pc_b1t] at ho
  have h6 := T.2.2.2.2.2
  omega
theorem pc_TI_le (T : pc_TI c L H S N n lw hg lb lt cf ca lf) : N ≤ 2047 := by
  have hs := pc_TI_sum T (fun _ => true) (fun _ => true)
  have hr : pc_sm (fun p => pc_b1 (true && true)) 1024 = 1024 := pc_sm_k 1 1024
  rw [hr] at hs
  have hle : pc_sm (fun j => pc_b1 (decide (lt j = 0))) N ≤ pc_sm (fun j => pc_b1 (decide (lt j = 0) && true) * pc_sm (fun p => pc_b1 (pc_bx (lw j) (hg j) p && true)) 1024) N := by
    apply pc_sm_le
    intro j hj
    obtain ⟨n1, n2, n3, _, _⟩ := T.2.1 j hj
    by_cases e : lt j = 0
    · rw [decide_eq_true e]
      show 1 ≤ 1 * pc_sm (fun p => pc_b1 (pc_bx (lw j) (hg j) p && true)) 1024
      rw [Nat.one_mul]
      have hb : pc_b1 (pc_bx (lw j) (hg j) (lw j) && true) = 1 := by rw [pc_bx_lo n3]; rfl
      have g := pc_sm_ge (f := fun p => pc_b1 (pc_bx (lw j) (hg j) p && true)) 1024 n1
      have g2 : pc_b1 (pc_bx (lw j) (hg j) (lw j) && true) ≤ pc_sm (fun p => pc_b1 (pc_bx (lw j) (hg j) p && true)) 1024 := g
      rw [hb] at g2
      exact g2
    · rw [decide_eq_false e]
      exact Nat.zero_le _
  have h6 := T.2.2.2.2.2
  omega
theorem pc_TI_0 (h1 : lw 0 = 0) (h2 : hg 0 = 1023) (h3 : lt 0 = 0) (hN : pc_Nd c L H S 0 1023 (lb 0)) : pc_TI c L H S 1 0 lw hg lb lt cf ca (fun _ => 0) := by
  have hb : ∀ p, p < 1024 → pc_bx 0 1023 p = true := by
    intro p hp
    rw [pc_bx_iff]
    intro f hf
    rcases (show f = 0 ∨ f = 1 ∨ f = 2 by omega) with rfl | rfl | rfl
    · rw [pc_fd0, pc_fd0, pc_fd0]; omega
    · rw [pc_fd1, pc_fd1, pc_fd1]; omega
    · rw [pc_fd2, pc_fd2, pc_fd2]; omega
  refine ⟨Nat.zero_le _, fun j hj => ?_, fun j hj h => ?_, fun j hj => by omega, fun p hp => ⟨?_, Nat.zero_lt_one, h3, fun j hj _ => ?_⟩, ?_⟩
  · rw [show j = 0 by omega, h1, h2]; exact hN
  · exact absurd (by rw [show j = 0 by omega]; exact h3) h
  · rw [h1, h2]; exact hb p hp
  · rw [show j = 0 by omega, h1, h2]
    exact ⟨fun _ => rfl, fun _ => hb p hp⟩
  · show 2 * (0 + pc_b1 (decide (lt 0 = 0))) = 1 + 1
    rw [decide_eq_true h3]; rfl
theorem pc_TI_leaf (T : pc_TI c L H S N n lw hg lb lt cf ca lf) (hn : n < N) (h : pc_fi (lb n) c 0 = c ∨ pc_tc L H (pc_fi (lb n) c 0) (hg n) (lw n) = true) :
    pc_TI c L H S N (n + 1) lw hg lb lt cf ca lf := by
  obtain ⟨t1, t2, t3, t4, t5, t6⟩ := T
  refine ⟨hn, t2, fun j hj e => ?_, fun j hj e => ?_, t5, t6⟩
  · obtain ⟨a, b⟩ := t3 j hj e
    exact ⟨by omega, b⟩
  · by_cases ej : j = n
    · rw [ej]; exact h
    · exact t4 j (by omega) e
theorem pc_TI_cut (T : pc_TI c L H S N n lw hg lb lt cf ca lf) (hn : n < N) {f a : Nat} (hf : f < 3) (h1 : pc_fd (lw n) f < a) (h2 : a ≤ pc_fd (hg n) f)
    {lw' hg' : Nat → Nat} {lb' : Nat → Nat → Bool} {lt' cf' ca' : Nat → Nat}
    (e1 : ∀ j, j < N → lw' j = lw j ∧ hg' j = hg j ∧ lb' j = lb j) (e1' : ∀ j, j < N → j ≠ n → lt' j = lt j ∧ cf' j = cf j ∧ ca' j = ca j)
    (e2 : lw' N = lw n ∧ hg' N = pc_wf (hg n) f (a - 1) ∧ lt' N = 0) (e3 : lw' (N + 1) = pc_wf (lw n) f a ∧ hg' (N + 1) = hg n ∧ lt' (N + 1) = 0)
    (e4 : lt' n = N ∧ cf' n = f ∧ ca' n = a)
    (hL : pc_Lv c L H (lb n) (lb' N) (lw n) (pc_wf (hg n) f (a - 1))) (hR : pc_Lv c L H (lb n) (lb' (N + 1)) (pc_wf (lw n) f a) (hg n)) :
    pc_TI c L H S (N + 2) (n + 1) lw' hg' lb' lt' cf' ca' (fun p => if lf p = n then (if pc_fd p f < a then N else N + 1) else lf p) := by
  have hop := pc_TI_open T hn
  obtain ⟨t1, t2, t3, t4, t5, t6⟩ := T
  obtain ⟨n1, n2, n3, n4, n5⟩ := t2 n hn
  have ha : a < 16 := by have := pc_fd_16 n2 f; omega
  have ha8 : f ≠ 0 → a < 8 := fun h => by have := pc_fd_8 (hg n) h; omega
  have hne := pc_cut_ne hf n3 h1 h2
  have NL : pc_Nd c L H S (lw n) (pc_wf (hg n) f (a - 1)) (lb' N) :=
    pc_live n1 (pc_wf_lt n2 hf (by omega) (fun h => by have := ha8 h; omega)) hne.1 hL (fun p hp => n5 p ((pc_cutL hf h1 h2 p).mp hp).1)
  have NR : pc_Nd c L H S (pc_wf (lw n) f a) (hg n) (lb' (N + 1)) :=
    pc_live (pc_wf_lt n1 hf ha ha8) n2 hne.2 hR (fun p hp => n5 p ((pc_cutR hf h1 h2 p).mp hp).1)
  refine ⟨by omega, fun j hj => ?_, fun j hj e => ?_, fun j hj e => ?_, fun p hp => ?_, ?_⟩
  · by_cases j1 : j < N
    · obtain ⟨x, y, z⟩ := e1 j j1
      rw [x, y, z]; exact t2 j j1
    · by_cases j2 : j = N
      · rw [j2, e2.1, e2.2.1]; exact NL
      · rw [show j = N + 1 by omega, e3.1, e3.2.1]; exact NR
  · by_cases j1 : j < N
    · by_cases jn : j = n
      · subst jn
        rw [e4.1, e4.2.1, e4.2.2]
        refine ⟨by omega, by omega, by omega, hf, by omega, fun p hp => ?_⟩
        rw [(e1 j j1).1, (e1 j j1).2.1] at hp
        rw [e2.1, e2.2.1, e3.1, e3.2.1]
        exact ⟨fun h => (pc_cutL hf h1 h2 p).mpr ⟨hp, h⟩, fun h => (pc_cutR hf h1 h2 p).mpr ⟨hp, h⟩⟩
      · obtain ⟨x1, x2, x3⟩ := e1' j j1 jn
        rw [x1] at e
        obtain ⟨y1, y2, y3, y4, y5, y6⟩ := t3 j j1 e
        rw [x1, x2, x3, (e1 j j1).1, (e1 j j1).2.1, (e1 (lt j) (by omega)).1, (e1 (lt j) (by omega)).2.1, (e1 (lt j + 1) y3).1, (e1 (lt j + 1) y3).2.1]
        exact ⟨by omega, y2, by omega, y4, y5, y6⟩
    · by_cases j2 : j = N
      · exact absurd (by rw [j2]; exact e2.2.2) e
      · exact absurd (by rw [show j = N + 1 by omega]; exact e3.2.2) e
  · have j1 : j < N := by omega
    by_cases jn : j = n
    · rw [jn, e4.1] at e; omega
    · rw [(e1' j j1 jn).1] at e
      rw [(e1 j j1).1, (e1 j j1).2.1, (e1 j j1).2.2]
      exact t4 j (by omega) e
  · obtain ⟨b0, b1, b2, b3⟩ := t5 p hp
    have hin : pc_bx (lw n) (hg n) p = true ↔ lf p = n := b3 n hn hop
    refine ⟨by rw [(e1 0 (by omega)).1, (e1 0 (by omega)).2.1]; exact b0, ?_, ?_, fun j hj ej => ?_⟩
    · show (if lf p = n then (if pc_fd p f < a then N else N + 1) else lf p) < N + 2
      split
      · split <;> omega
      · omega
    · show lt' (if lf p = n then (if pc_fd p f < a then N else N + 1) else lf p) = 0
      by_cases z : lf p = n
      · rw [if_pos z]
        by_cases y : pc_fd p f < a
        · rw [if_pos y]; exact e2.2.2
        · rw [if_neg y]; exact e3.2.2
      · rw [if_neg z, (e1' (lf p) b1 z).1]; exact b2
    · show pc_bx (lw' j) (hg' j) p = true ↔ (if lf p = n then (if pc_fd p f < a then N else N + 1) else lf p) = j
      by_cases j1 : j < N
      · have jn : j ≠ n := fun z => by rw [z, e4.1] at ej; omega
        rw [(e1 j j1).1, (e1 j j1).2.1]
        rw [(e1' j j1 jn).1] at ej
        rw [b3 j j1 ej]
        by_cases z : lf p = n
        · rw [if_pos z]
          constructor
          · intro w; omega
          · intro w
            split at w <;> omega
        · rw [if_neg z]
      · by_cases j2 : j = N
        · rw [j2, e2.1, e2.2.1, pc_cutL hf h1 h2 p, hin]
          by_cases z : lf p = n
          · rw [if_pos z]
            by_cases y : pc_fd p f < a
            · rw [if_pos y]; exact ⟨fun _ => rfl, fun _ => ⟨z, y⟩⟩
            · rw [if_neg y]; exact ⟨fun w => absurd w.2 y, fun w => by omega⟩
          · rw [if_neg z]; exact ⟨fun w => absurd w.1 z, fun w => by omega⟩
        · rw [show j = N + 1 by omega, e3.1, e3.2.1, pc_cutR hf h1 h2 p, hin]
          by_cases z : lf p = n
          · rw [if_pos z]
            by_cases y : pc_fd p f < a
            · rw [if_pos y]; exact ⟨fun w => by omega, fun w => by omega⟩
            · rw [if_neg y]; exact ⟨fun _ => rfl, fun _ => ⟨z, by omega⟩⟩
          · rw [if_neg z]; exact ⟨fun w => absurd w.1 z, fun w => by omega⟩
  · have s1 : pc_sm (fun j => pc_b1 (decide (lt' j = 0)) + pc_b1 (decide (j = n))) N = pc_sm (fun j => pc_b1 (decide (lt j = 0))) N := by
      apply pc_sm_congr
      intro j hj
      by_cases jn : j = n
      · rw [jn, e4.1, hop, decide_eq_true rfl, decide_eq_true rfl, decide_eq_false (by omega)]; rfl
      · rw [(e1' j hj jn).1, decide_eq_false jn]; rfl
    rw [pc_sm_add] at s1
    have ho : pc_sm (fun j => pc_b1 (decide (j = n))) N = pc_b1 (decide (n = n)) := pc_sm_one (f := fun j => pc_b1 (decide (j = n))) N hn (fun j _ hne => by show pc_b1 (decide (j = n)) = 0; rw [decide_eq_false hne]; rfl)
    rw [decide_eq_true rfl, pc_b1t] at ho
    have s2 : pc_sm (fun j => pc_b1 (decide (lt' j = 0))) (N + 2) = pc_sm (fun j => pc_b1 (decide (lt' j = 0))) N + pc_b1 (decide (lt' N = 0)) + pc_b1 (decide (lt' (N + 1) = 0)) := rfl
    rw [decide_eq_true e2.2.2, decide_eq_true e3.2.2, pc_b1t] at s2
    omega
/-- in a finished tree each packet's leaf says which rule decides it -/
theorem pc_TI_dec (T : pc_TI c L H S N N lw hg lb lt cf ca lf) {p : Nat} (hp : p < 1024) : pc_fr L H c S p = pc_fi (lb (lf p)) c 0 := by
  obtain ⟨t1, t2, t3, t4, t5, t6⟩ := T
  obtain ⟨b0, b1, b2, b3⟩ := t5 p hp
  exact pc_leaf (t2 _ b1) (t4 _ b1 b2) p ((b3 _ b1 b2).mpr rfl)
end
end
section
/-! the component's small methods -/
theorem pc_ix (r f : Nat) : nI r * 3 + nI f = nI (r * 3 + f) := by
  rw [show (3 : Int32) = nI 3 from rfl, pk_mul, nI_add]
def pc_bi (b : Bool) : Int32 := if b = true then 1 else 0
theorem pc_bi_n (b : Bool) : narrow .boolean (.int (pc_bi b)) = .int (pc_bi b) := by cases b <;> rfl
/-- an index among c, or NONE -/
def pc_en (c r : Nat) : Int32 := if r < c then nI r else -4
theorem pc_en_t {c r : Nat} (h : r < c) : pc_en c r = nI r := if_pos h
theorem pc_en_f {c r : Nat} (h : ¬ r < c) : pc_en c r = -4 := if_neg h
def pc_WF (c : Nat) (L H : Nat → Nat) (aF aT : Nat → Int32) : Prop :=
  c ≤ 10 ∧ ∀ r, r < c → ∀ f, f < 3 → aF (r * 3 + f) = nI (L (r * 3 + f)) ∧ aT (r * 3 + f) = nI (H (r * 3 + f)) ∧ L (r * 3 + f) ≤ H (r * 3 + f) ∧ H (r * 3 + f) < 16 ∧ (f ≠ 0 → H (r * 3 + f) < 8)
theorem pc_shr6 {p : Nat} (hp : p < 2 ^ 31) : nI p >>> ((6 : Int32) &&& 31) = nI (p / 64) := pk_shrN hp _ 6 (by decide)
theorem pc_shr3 {p : Nat} (hp : p < 2 ^ 31) : nI p >>> ((3 : Int32) &&& 31) = nI (p / 8) := pk_shrN hp _ 3 (by decide)
theorem pc_shr4 {p : Nat} (hp : p < 2 ^ 31) : nI p >>> ((4 : Int32) &&& 31) = nI (p / 16) := pk_shrN hp _ 4 (by decide)
theorem pc_and7 {p : Nat} (hp : p < 2 ^ 31) : nI p &&& 7 = nI (p % 8) := pk_andN (by omega) 3 (by decide)
theorem pc_xfield {post : Int32 → Prop} {u : SX} {p f : Nat} (hp : p < 2 ^ 31) (hf : f < 3) (h : post (nI (pc_fd p f))) : wpX_field post u (nI p) (nI f) := by
  obtain ⟨fc, fb, fn, fw, aF, aT, aD, aL, aH, aV, aC, aA, aE, aY⟩ := u
  unfold wpX_field
  dsimp only
  rw [pc_shr6 hp, pc_shr3 hp, pc_and7 (p := p / 8) (by omega), pc_and7 hp]
  rcases (show f = 0 ∨ f = 1 ∨ f = 2 by omega) with rfl | rfl | rfl
  · exact br_t rfl h
  · exact br_f (by decide) (br_t rfl h)
  · exact br_f (by decide) (br_f (by decide) h)
theorem pc_orN (a b : Nat) : nI a ||| nI b = nI (a ||| b) := by
  apply Int32.toBitVec_inj.1
  show BitVec.ofNat 32 a ||| BitVec.ofNat 32 b = BitVec.ofNat 32 (a ||| b)
  apply BitVec.eq_of_getLsbD_eq
  intro i hi
  simp [hi]
theorem pc_wfA : ∀ p, p < 1024 → nI p &&& (-57) = nI (p / 64 * 64 + p % 8) := by decide +kernel
theorem pc_wfB : ∀ p, p < 1024 → nI p &&& (-8) = nI (p / 8 * 8) := by decide +kernel
theorem pc_wfC : ∀ a, a < 16 → ∀ b, b < 8 → ∀ v, v < 8 → (a * 64 + b) ||| (v * 8) = a * 64 + v * 8 + b := by decide +kernel
theorem pc_wfD : ∀ a, a < 128 → ∀ v, v < 8 → (a * 8) ||| v = a * 8 + v := by decide +kernel
theorem pc_wfE : ∀ a, a < 64 → ∀ v, v < 16 → a ||| (v * 64) = a + v * 64 := by decide +kernel
theorem pc_xwith {post : Int32 → Prop} {u : SX} {p f v : Nat} (hp : p < 1024) (hf : f < 3) (hv : v < 16) (h8 : f ≠ 0 → v < 8) (h : post (nI (pc_wf p f v))) : wpX_withField post u (nI p) (nI f) (nI v) := by
  obtain ⟨fc, fb, fn, fw, aF, aT, aD, aL, aH, aV, aC, aA, aE, aY⟩ := u
  unfold wpX_withField
  dsimp only
  have e63 : nI p &&& 63 = nI (p % 64) := pk_andN (by omega) 6 (by decide)
  have s6 : nI v <<< ((6 : Int32) &&& 31) = nI (v * 64) := pk_shlN _ 6 (by decide) (by omega)
  have s3 : nI v <<< ((3 : Int32) &&& 31) = nI (v * 8) := pk_shlN _ 3 (by decide) (by omega)
  rw [e63, s6, s3, pc_wfA p hp, pc_wfB p hp, pc_orN, pc_orN, pc_orN]
  rcases (show f = 0 ∨ f = 1 ∨ f = 2 by omega) with rfl | rfl | rfl
  · rw [pc_wfE _ (by omega) v hv]
    exact br_t rfl h
  · rw [pc_wfC _ (by omega) _ (by omega) v (h8 (by omega))]
    exact br_f (by decide) (br_t rfl h)
  · rw [pc_wfD _ (by omega) v (h8 (by omega))]
    exact br_f (by decide) (br_f (by decide) h)
/-! touches and fills -/
def pc_al (t : Nat → Bool) : Nat → Nat → Bool → Bool
  | 0, _, b => b
  | d + 1, f, b => pc_al t d (f + 1) (b && t f)
section
variable {fc fb fn fw : Int32} {aF aT aD aL aH aV aC aA aE aY : Nat → Int32} {c : Nat} {L H : Nat → Nat}
theorem pc_vin (hw : pc_WF c L H aF aT) {r f : Nat} (hr : r < c) (hf : f < 3) : vp_in (nI r * 3 + nI f) 30 := by
  rw [pc_ix]
  have := hw.1
  exact vp_in_nI (by omega) (by decide)
theorem pc_cla (hw : pc_WF c L H aF aT) {r f : Nat} (hr : r < c) (hf : f < 3) : (nI r * 3 + nI f).toNatClampNeg = r * 3 + f := by
  rw [pc_ix]
  have := hw.1
  exact nI_clamp (by omega)
theorem pc_rdF (hw : pc_WF c L H aF aT) {r f : Nat} (hr : r < c) (hf : f < 3) : aF (nI r * 3 + nI f).toNatClampNeg = nI (L (r * 3 + f)) := by
  rw [pc_cla hw hr hf]; exact (hw.2 r hr f hf).1
theorem pc_rdT (hw : pc_WF c L H aF aT) {r f : Nat} (hr : r < c) (hf : f < 3) : aT (nI r * 3 + nI f).toNatClampNeg = nI (H (r * 3 + f)) := by
  rw [pc_cla hw hr hf]; exact (hw.2 r hr f hf).2.1
theorem pc_ge3 {f : Nat} (h : f < 3) : ¬ (3 : Int32) ≤ nI f := nI_ge (b := 3) h (by decide)
theorem pc_xtouch6 (hw : pc_WF c L H aF aT) {post : Int32 → Prop} {r lo hi : Nat} (hr : r < c) (hlo : lo < 1024) (hhi : hi < 1024) :
    ∀ d f (b : Bool), f + d = 3 → post (pc_bi (pc_al (pc_tf L H r lo hi) d f b)) → wX_touches_6 post (nI r) (nI lo) (nI hi) fc fb fn fw aF aT aD aL aH aV aC aA aE aY (d + 1) (pc_bi b) (nI f) := by
  intro d
  induction d with
  | zero =>
    intro f b hf hp
    have e : f = 3 := by omega
    subst e
    exact br_t (by decide) ⟨pc_bi_n b, hp⟩
  | succ d ih =>
    intro f b hf hp
    have hf3 : f < 3 := by omega
    obtain ⟨_, _, hLH, hH, _⟩ := hw.2 r hr f hf3
    cases b with
    | false => exact br_f (pc_ge3 hf3) (br_t rfl (nm_r (nI_1 f) (ih (f + 1) false (by omega) hp)))
    | true =>
      have key : ∀ b', pc_tf L H r lo hi f = b' → post (pc_bi (pc_al (pc_tf L H r lo hi) d (f + 1) b')) := by
        intro b' e
        subst e
        exact hp
      have x1 := pc_fd_16 hhi f
      have x2 := pc_fd_16 hlo f
      refine br_f (pc_ge3 hf3) (br_f (by decide) ⟨pc_vin hw hr hf3, pc_xfield (by omega) hf3 ?_⟩)
      refine pk_lt (pc_fd hi f) (L (r * 3 + f)) (fun h => nm_r (nI_1 f) (ih (f + 1) false (by omega) (key false ?_))) (fun h => ⟨pc_vin hw hr hf3, pc_xfield (by omega) hf3 ?_⟩) rfl (pc_rdF hw hr hf3)
      · exact pc_bf (fun z => by have := (pc_tf_iff.mp z).1; omega)
      · refine pk_lt (H (r * 3 + f)) (pc_fd lo f) (fun h2 => nm_r (nI_1 f) (ih (f + 1) false (by omega) (key false ?_))) (fun h2 => nm_r (nI_1 f) (ih (f + 1) true (by omega) (key true ?_))) (pc_rdT hw hr hf3) rfl
        · exact pc_bf (fun z => by have := (pc_tf_iff.mp z).2; omega)
        · exact pc_tf_iff.mpr ⟨h, h2⟩
theorem pc_al3 (t : Nat → Bool) : pc_al t 3 0 true = pc_a3 t := by
  show (((true && t 0) && t 1) && t 2) = ((t 0 && t 1) && t 2)
  rw [Bool.true_and]
theorem pc_xtouch (hw : pc_WF c L H aF aT) {post : Int32 → Prop} {r lo hi : Nat} (hr : r < c) (hlo : lo < 1024) (hhi : hi < 1024)
    (h : post (pc_bi (pc_tc L H r lo hi))) : wpX_touches post (fc, fb, fn, fw, aF, aT, aD, aL, aH, aV, aC, aA, aE, aY) (nI r) (nI lo) (nI hi) :=
  ⟨4, pc_xtouch6 hw hr hlo hhi 3 0 true rfl (by rw [pc_al3]; exact h)⟩
theorem pc_xfill6 (hw : pc_WF c L H aF aT) {post : Int32 → Prop} {r lo hi : Nat} (hr : r < c) (hlo : lo < 1024) (hhi : hi < 1024) :
    ∀ d f (b : Bool), f + d = 3 → post (pc_bi (pc_al (pc_tf L H r hi lo) d f b)) → wX_fills_6 post (nI r) (nI lo) (nI hi) fc fb fn fw aF aT aD aL aH aV aC aA aE aY (d + 1) (pc_bi b) (nI f) := by
  intro d
  induction d with
  | zero =>
    intro f b hf hp
    have e : f = 3 := by omega
    subst e
    exact br_t (by decide) ⟨pc_bi_n b, hp⟩
  | succ d ih =>
    intro f b hf hp
    have hf3 : f < 3 := by omega
    obtain ⟨_, _, hLH, hH, _⟩ := hw.2 r hr f hf3
    cases b with
    | false => exact br_f (pc_ge3 hf3) (br_t rfl (nm_r (nI_1 f) (ih (f + 1) false (by omega) hp)))
    | true =>
      have key : ∀ b', pc_tf L H r hi lo f = b' → post (pc_bi (pc_al (pc_tf L H r hi lo) d (f + 1) b')) := by
        intro b' e
        subst e
        exact hp
      have x1 := pc_fd_16 hhi f
      have x2 := pc_fd_16 hlo f
      refine br_f (pc_ge3 hf3) (br_f (by decide) ⟨pc_vin hw hr hf3, pc_xfield (by omega) hf3 ?_⟩)
      refine pk_lt (pc_fd lo f) (L (r * 3 + f)) (fun h => nm_r (nI_1 f) (ih (f + 1) false (by omega) (key false ?_))) (fun h => ⟨pc_vin hw hr hf3, pc_xfield (by omega) hf3 ?_⟩) rfl (pc_rdF hw hr hf3)
      · exact pc_bf (fun z => by have := (pc_tf_iff.mp z).1; omega)
      · refine pk_lt (H (r * 3 + f)) (pc_fd hi f) (fun h2 => nm_r (nI_1 f) (ih (f + 1) false (by omega) (key false ?_))) (fun h2 => nm_r (nI_1 f) (ih (f + 1) true (by omega) (key true ?_))) (pc_rdT hw hr hf3) rfl
        · exact pc_bf (fun z => by have := (pc_tf_iff.mp z).2; omega)
        · exact pc_tf_iff.mpr ⟨h, h2⟩
theorem pc_xfill (hw : pc_WF c L H aF aT) {post : Int32 → Prop} {r lo hi : Nat} (hr : r < c) (hlo : lo < 1024) (hhi : hi < 1024)
    (h : post (pc_bi (pc_tc L H r hi lo))) : wpX_fills post (fc, fb, fn, fw, aF, aT, aD, aL, aH, aV, aC, aA, aE, aY) (nI r) (nI lo) (nI hi) :=
  ⟨4, pc_xfill6 hw hr hlo hhi 3 0 true rfl (by rw [pc_al3]; exact h)⟩
end
/-! bits of a set -/
theorem pc_one : ∀ i, i < 32 → bt 1 i = decide (i = 0) := by decide +kernel
theorem pc_bit (x : Int32) {r : Nat} (hr : r < 32) : (x >>> (nI r &&& 31)) &&& 1 = nI (pc_b1 (bt x r)) := by
  apply b_ext
  intro i hi
  rw [b_and, b_sshr r hr x hi, pc_one i hi]
  by_cases h : i = 0
  · subst h
    rw [Nat.add_zero, if_pos hr]
    cases bt x r <;> rfl
  · rw [decide_eq_false h, Bool.and_false]
    cases bt x r with
    | false => exact (b_0 i).symm
    | true =>
      show false = bt 1 i
      rw [pc_one i hi, decide_eq_false h]
theorem pc_bitP {A B : Prop} (x : Int32) {r : Nat} (hr : r < 32) (f : bt x r = true → A) (g : bt x r = false → B) : ((x >>> (nI r &&& 31)) &&& 1 = 1 → A) ∧ (¬ (x >>> (nI r &&& 31)) &&& 1 = 1 → B) := by
  rw [pc_bit x hr]
  cases h : bt x r with
  | true => exact br_t rfl (f h)
  | false => exact br_f (by decide) (g h)
theorem pc_bset (x : Int32) {r : Nat} (hr : r < 32) {i : Nat} (hi : i < 32) : bt (x ||| ((1 : Int32) <<< (nI r &&& 31))) i = (bt x i || decide (i = r)) := by
  rw [b_or, b_shl r hr 1 hi]
  by_cases h : i = r
  · subst h
    rw [Nat.sub_self, pc_one 0 (by omega), decide_eq_true (Nat.le_refl _), decide_eq_true rfl, decide_eq_true rfl]; rfl
  · rw [decide_eq_false h]
    by_cases h2 : r ≤ i
    · rw [pc_one (i - r) (by omega), decide_eq_false (p := i - r = 0) (by omega), Bool.and_false]
    · rw [decide_eq_false h2, Bool.false_and]
section
variable {fc fb fn fw : Int32} {aF aT aD aL aH aV aC aA aE aY : Nat → Int32} {c : Nat} {L H : Nat → Nat}
theorem pc_xfirst2 (hc : c ≤ 10) {post : Int32 → Prop} {x : Int32} : ∀ d r, r + d = c → post (pc_en c (pc_fi (bt x) d r)) → wX_firstOf_2 post x (nI c) fb fn fw aF aT aD aL aH aV aC aA aE aY (d + 1) (nI r) := by
  intro d
  induction d with
  | zero =>
    intro r hr hp
    have e : r = c := by omega
    subst e
    rw [pc_en_f (show ¬ pc_fi (bt x) 0 r < r from Nat.lt_irrefl r)] at hp
    exact br_t (nI_le (Nat.le_refl _) (by omega)) hp
  | succ d ih =>
    intro r hr hp
    refine br_f (nI_ge (by omega) (by omega)) (pc_bitP x (by omega) (fun h => ?_) (fun h => nm_r (nI_1 r) (ih (r + 1) (by omega) ?_)))
    · rw [pc_fi_t d h, pc_en_t (by omega)] at hp
      exact hp
    · rw [pc_fi_f d (pc_nt h)] at hp
      exact hp
theorem pc_xfirst (hc : c ≤ 10) {post : Int32 → Prop} {x : Int32} (h : post (pc_en c (pc_fi (bt x) c 0))) : wpX_firstOf post (nI c, fb, fn, fw, aF, aT, aD, aL, aH, aV, aC, aA, aE, aY) x :=
  ⟨c + 1, pc_xfirst2 hc c 0 (by omega) h⟩
/-! the live rules of a set in a box -/
def pc_LC (L H : Nat → Nat) (sb : Nat → Bool) (lo hi r : Nat) : Prop :=
  sb r = true ∧ pc_tc L H r lo hi = true ∧ ∀ q, q < r → ¬ (sb q = true ∧ pc_tc L H q lo hi = true ∧ pc_tc L H q hi lo = true)
theorem pc_xlive9 (hw : pc_WF c L H aF aT) {post : Int32 → Prop} {s : Int32} {lo hi : Nat} (hlo : lo < 1024) (hhi : hi < 1024)
    (hp : ∀ x, pc_Lv c L H (bt s) (bt x) lo hi → post x) : ∀ d r (x : Int32) (o : Bool), r + d = c →
    (∀ i, i < 32 → (bt x i = true ↔ i < r ∧ pc_LC L H (bt s) lo hi i)) →
    (o = true ↔ ∀ q, q < r → ¬ (bt s q = true ∧ pc_tc L H q lo hi = true ∧ pc_tc L H q hi lo = true)) →
    wX_liveIn_9 post s (nI lo) (nI hi) (nI c) fb fn fw aF aT aD aL aH aV aC aA aE aY (d + 1) x (pc_bi o) (nI r) := by
  have hc := hw.1
  intro d
  induction d with
  | zero =>
    intro r x o hr hx ho
    refine br_t (nI_le (by omega) (by omega)) (hp x (fun i hi => ?_))
    rw [hx i (by omega)]
    exact ⟨fun z => z.2, fun z => ⟨by omega, z⟩⟩
  | succ d ih =>
    intro r x o hr hx ho
    refine br_f (nI_ge (by omega) (by omega)) ?_
    cases o with
    | false =>
      refine br_t rfl (hp x (fun i hi => ?_))
      rw [hx i (by omega)]
      refine ⟨fun z => z.2, fun z => ⟨?_, z⟩⟩
      by_cases hir : i < r
      · exact hir
      · exact absurd (ho.mpr (fun q hq => z.2.2 q (by omega))) (by decide)
    | true =>
      have ho' := ho.mp rfl
      refine br_f (by decide) (pc_bitP s (by omega) (fun h => pc_xtouch hw (by omega) hlo hhi ?_) (fun h => nm_r (nI_1 r) (ih (r + 1) x true (by omega) ?_ ?_)))
      · cases ht : pc_tc L H r lo hi with
        | false =>
          refine br_t rfl (nm_r (nI_1 r) (ih (r + 1) x true (by omega) ?_ ?_))
          · intro i hi
            rw [hx i hi]
            refine ⟨fun z => ⟨by omega, z.2⟩, fun z => ⟨?_, z.2⟩⟩
            by_cases e : i = r
            · have w := z.2.2.1
              rw [e, ht] at w
              exact absurd w (by decide)
            · omega
          · refine ⟨fun _ q hq => ?_, fun _ => rfl⟩
            by_cases e : q = r
            · rw [e, ht]
              exact fun z => absurd z.2.1 (by decide)
            · exact ho' q (by omega)
        | true =>
          have hx' : ∀ i, i < 32 → (bt (x ||| ((1 : Int32) <<< (nI r &&& 31))) i = true ↔ i < r + 1 ∧ pc_LC L H (bt s) lo hi i) := by
            intro i hi
            rw [pc_bset x (by omega) hi]
            by_cases e : i = r
            · rw [decide_eq_true e, Bool.or_true, e]
              exact ⟨fun _ => ⟨by omega, h, ht, ho'⟩, fun _ => rfl⟩
            · rw [decide_eq_false e, Bool.or_false, hx i hi]
              exact ⟨fun z => ⟨by omega, z.2⟩, fun z => ⟨by omega, z.2⟩⟩
          refine br_f (by decide) (nm_e (pc_xfill hw (by omega) hlo hhi ?_))
          cases hf : pc_tc L H r hi lo with
          | false =>
            refine br_t rfl (nm_r (nI_1 r) (ih (r + 1) _ true (by omega) hx' ?_))
            refine ⟨fun _ q hq => ?_, fun _ => rfl⟩
            by_cases e : q = r
            · rw [e, hf]
              exact fun z => absurd z.2.2 (by decide)
            · exact ho' q (by omega)
          | true =>
            refine br_f (by decide) (nm_r (nI_1 r) (ih (r + 1) _ false (by omega) hx' ?_))
            exact ⟨fun z => absurd z (by decide), fun z => absurd ⟨h, ht, hf⟩ (z r (by omega))⟩
      · intro i hi
        rw [hx i hi]
        refine ⟨fun z => ⟨by omega, z.2⟩, fun z => ⟨?_, z.2⟩⟩
        by_cases e : i = r
        · have w := z.2.1
          rw [e, h] at w
          exact absurd w (by decide)
        · omega
      · refine ⟨fun _ q hq => ?_, fun _ => rfl⟩
        by_cases e : q = r
        · rw [e, h]
          exact fun z => absurd z.1 (by decide)
        · exact ho' q (by omega)
theorem pc_xlive (hw : pc_WF c L H aF aT) {post : Int32 → Prop} {s : Int32} {lo hi : Nat} (hlo : lo < 1024) (hhi : hi < 1024)
    (hp : ∀ x, pc_Lv c L H (bt s) (bt x) lo hi → post x) : wpX_liveIn post (nI c, fb, fn, fw, aF, aT, aD, aL, aH, aV, aC, aA, aE, aY) s (nI lo) (nI hi) := by
  refine ⟨c + 1, pc_xlive9 hw hlo hhi hp c 0 0 true (by omega) (fun i hi => ?_) ⟨fun _ q hq => by omega, fun _ => rfl⟩⟩
  rw [b_0 i]
  exact ⟨fun z => absurd z (by decide), fun z => by omega⟩
end
end
section
/-! the component builds its tree -/
def pc_le (l : Nat) : Int32 := if l = 0 then -4 else nI l
/-- the arrays hold a tree of N nodes, of which those before n are done -/
def pc_TA (c : Nat) (L H : Nat → Nat) (S : Nat → Bool) (N n : Nat) (aL aH aV aC aA aE : Nat → Int32) : Prop :=
  ∃ lw hg lt cf ca lf : Nat → Nat, pc_TI c L H S N n lw hg (fun j => bt (aV j)) lt cf ca lf ∧
    ∀ j, j < N → aL j = nI (lw j) ∧ aH j = nI (hg j) ∧ aE j = pc_le (lt j) ∧ (lt j ≠ 0 → aC j = nI (cf j) ∧ aA j = nI (ca j))
/-- what the search for a cut has found so far: a cut, or there was no edge within -/
def pc_CI (n lo hi : Nat) (bad : Prop) (aC0 aA0 : Nat → Int32) (best : Int32) (aC aA : Nat → Int32) : Prop :=
  (∀ j, j ≠ n → aC j = aC0 j ∧ aA j = aA0 j) ∧
  ((∃ f a, f < 3 ∧ pc_fd lo f < a ∧ a ≤ pc_fd hi f ∧ aC n = nI f ∧ aA n = nI a) ∨ (best = nI 1000 ∧ bad))
theorem pc_unev : ∀ a, a < 17 → ∀ l, l < 16 → ∀ h, h < 16 → (¬ nI 1000 ≤ (((2 * nI a) - nI l) - nI h) - 1) ∧ (¬ nI 1000 ≤ -((((2 * nI a) - nI l) - nI h) - 1)) := by decide +kernel
section
variable {fc fb fn fw : Int32} {aF aT aD aL aH aV aC aA aE aY : Nat → Int32} {c : Nat} {L H : Nat → Nat} {S : Nat → Bool}
theorem pc_xmake (hw : pc_WF c L H aF aT) {post : Int32 → SX → Prop} {N lo hi : Nat} {s : Int32} (hN : N < 2048) (hlo : lo < 1024) (hhi : hi < 1024)
    (hp : ∀ x, pc_Lv c L H (bt s) (bt x) lo hi → post (nI N) (nI c, fb, nI (N + 1), fw, aF, aT, aD, upd aL N (nI lo), upd aH N (nI hi), upd aV N x, aC, aA, upd aE N (-4), aY)) :
    wpX_makeNode post (nI c, fb, nI N, fw, aF, aT, aD, aL, aH, aV, aC, aA, aE, aY) s (nI lo) (nI hi) := by
  unfold wpX_makeNode
  dsimp only
  have hin : vp_in (nI N) 2048 := vp_in_nI hN (by decide)
  rw [nI_clamp (show N < 2 ^ 31 by omega)]
  refine ⟨hin, nm_e ⟨hin, nm_e (pc_xlive hw hlo hhi (fun x hx => ⟨hin, nm_e ⟨hin, nm_e (nm_r (nI_1 N) ?_)⟩⟩))⟩⟩
  rw [nI_pred]
  exact hp x hx
theorem pc_cut147 {post : SX → Prop} {J43 J80 : Int32 → Int32 → (Nat → Int32) → (Nat → Int32) → (Nat → Int32) → (Nat → Int32) → (Nat → Int32) → (Nat → Int32) → (Nat → Int32) → (Nat → Int32) → (Nat → Int32) → (Nat → Int32) → Prop}
    {n lo hi f a side : Nat} {bad : Prop} {aC0 aA0 : Nat → Int32} {best x2 z0 : Int32} (hn : n < 2048) (hlo : lo < 1024) (hhi : hi < 1024) (hf : f < 3) (ha : a < 17)
    (hC : pc_CI n lo hi bad aC0 aA0 best aC aA) (hu : ¬ nI 1000 ≤ z0)
    (hJ : ∀ best' aC' aA', pc_CI n lo hi (bad ∧ ¬ (pc_fd lo f < a ∧ a ≤ pc_fd hi f)) aC0 aA0 best' aC' aA' → J80 best' (nI (side + 1)) aF aT aD aL aH aV aC' aA' aE aY) :
    wX_cut_147 post J43 J80 (nI n) x2 best (nI f) (nI (pc_fd lo f)) (nI (pc_fd hi f)) (nI side) (nI a) z0 fc fb fn fw aF aT aD aL aH aV aC aA aE aY := by
  have x1 := pc_fd_16 hhi f
  have x2' := pc_fd_16 hlo f
  have hin : vp_in (nI n) 2048 := vp_in_nI hn (by decide)
  have skip : (¬ (pc_fd lo f < a ∧ a ≤ pc_fd hi f)) → J80 best (nI (side + 1)) aF aT aD aL aH aV aC aA aE aY := by
    intro h
    refine hJ best aC aA ⟨hC.1, ?_⟩
    rcases hC.2 with h5 | h5
    · exact Or.inl h5
    · exact Or.inr ⟨h5.1, h5.2, h⟩
  unfold wX_cut_147
  rw [nI_clamp (show n < 2 ^ 31 by omega)]
  refine pk_le a (pc_fd lo f) (fun h => nm_r (nI_1 side) (skip (by omega))) (fun h => pk_lt (pc_fd hi f) a (fun h2 => nm_r (nI_1 side) (skip (by omega))) (fun h2 => br_c (fun h3 => nm_r (nI_1 side) ?_) (fun h3 => ⟨hin, nm_e ⟨hin, nm_e (nm_r (nI_1 side) ?_)⟩⟩)))
  · refine hJ best aC aA ⟨hC.1, ?_⟩
    rcases hC.2 with h5 | h5
    · exact Or.inl h5
    · rw [h5.1] at h3
      exact absurd h3 hu
  · refine hJ z0 _ _ ⟨fun j hj => ?_, Or.inl ⟨f, a, hf, h, h2, pk_us, pk_us⟩⟩
    rw [pk_un hj, pk_un hj]
    exact hC.1 j hj
theorem pc_cut118 {post : SX → Prop} {J43 J80 : Int32 → Int32 → (Nat → Int32) → (Nat → Int32) → (Nat → Int32) → (Nat → Int32) → (Nat → Int32) → (Nat → Int32) → (Nat → Int32) → (Nat → Int32) → (Nat → Int32) → (Nat → Int32) → Prop}
    {n lo hi f side : Nat} (a : Nat) {bad : Prop} {aC0 aA0 : Nat → Int32} {best x2 z : Int32} (hz : z = nI a) (hn : n < 2048) (hlo : lo < 1024) (hhi : hi < 1024) (hf : f < 3) (ha : a < 17)
    (hC : pc_CI n lo hi bad aC0 aA0 best aC aA)
    (hJ : ∀ best' aC' aA', pc_CI n lo hi (bad ∧ ¬ (pc_fd lo f < a ∧ a ≤ pc_fd hi f)) aC0 aA0 best' aC' aA' → J80 best' (nI (side + 1)) aF aT aD aL aH aV aC' aA' aE aY) :
    wX_cut_118 post J43 J80 (nI n) x2 best (nI f) (nI (pc_fd lo f)) (nI (pc_fd hi f)) (nI side) z fc fb fn fw aF aT aD aL aH aV aC aA aE aY := by
  subst hz
  obtain ⟨u1, u2⟩ := pc_unev a ha (pc_fd lo f) (pc_fd_16 hlo f) (pc_fd hi f) (pc_fd_16 hhi f)
  exact nm_e (br_c (fun _ => pc_cut147 hn hlo hhi hf ha hC u1 hJ) (fun _ => pc_cut147 hn hlo hhi hf ha hC u2 hJ))
/-- no edge of rule r on field f lies within -/
def pc_nb (L H : Nat → Nat) (r lo hi f : Nat) : Prop :=
  ¬ (pc_fd lo f < L (r * 3 + f) ∧ L (r * 3 + f) ≤ pc_fd hi f) ∧ ¬ (pc_fd lo f < H (r * 3 + f) + 1 ∧ H (r * 3 + f) + 1 ≤ pc_fd hi f)
theorem pc_cut80 (hw : pc_WF c L H aF aT) {post : SX → Prop} {J43 : Int32 → Int32 → (Nat → Int32) → (Nat → Int32) → (Nat → Int32) → (Nat → Int32) → (Nat → Int32) → (Nat → Int32) → (Nat → Int32) → (Nat → Int32) → (Nat → Int32) → (Nat → Int32) → Prop}
    {n r lo hi f : Nat} {bad : Prop} {aC0 aA0 : Nat → Int32} {best : Int32} (hn : n < 2048) (hr : r < c) (hlo : lo < 1024) (hhi : hi < 1024) (hf : f < 3)
    (hC : pc_CI n lo hi bad aC0 aA0 best aC aA)
    (hJ : ∀ best' aC' aA', pc_CI n lo hi (bad ∧ pc_nb L H r lo hi f) aC0 aA0 best' aC' aA' → J43 best' (nI (f + 1)) aF aT aD aL aH aV aC' aA' aE aY) :
    wX_cut_80 post J43 (nI n) (nI r) (nI f) (nI (pc_fd lo f)) (nI (pc_fd hi f)) fc fb fn fw 3 best 0 aF aT aD aL aH aV aC aA aE aY := by
  obtain ⟨_, _, hLH, hH, _⟩ := hw.2 r hr f hf
  have hin := pc_vin hw hr hf
  refine br_f (by decide) (br_t rfl ⟨hin, pc_cut118 (side := 0) (L (r * 3 + f)) (pc_rdF hw hr hf) hn hlo hhi hf (by omega) hC (fun b1 C1 A1 h1 => ?_)⟩)
  refine br_f (by decide) (br_f (by decide) ⟨hin, pc_cut118 (side := 1) (H (r * 3 + f) + 1) (by rw [pc_rdT hw hr hf, nI_1]) hn hlo hhi hf (by omega) h1 (fun b2 C2 A2 h2 => ?_)⟩)
  refine br_t (by decide) (nm_r (nI_1 f) (hJ b2 C2 A2 ⟨h2.1, ?_⟩))
  rcases h2.2 with h5 | h5
  · exact Or.inl h5
  · exact Or.inr ⟨h5.1, h5.2.1.1, h5.2.1.2, h5.2.2⟩
theorem pc_cut43 (hw : pc_WF c L H aF aT) {post : SX → Prop} {n N r lo hi : Nat} {aC0 aA0 : Nat → Int32} (hn : n < N) (hN : N + 1 < 2048) (hr : r < c) (hlo : lo < 1024) (hhi : hi < 1024)
    (eL : aL n = nI lo) (eH : aH n = nI hi) (ht : pc_tc L H r lo hi = true) (hfl : ¬ pc_tc L H r hi lo = true)
    (hp : ∀ f a (aC' aA' : Nat → Int32) (x y : Int32), f < 3 → pc_fd lo f < a → a ≤ pc_fd hi f → (∀ j, j ≠ n → aC' j = aC0 j ∧ aA' j = aA0 j) → aC' n = nI f → aA' n = nI a →
      pc_Lv c L H (bt (aV n)) (bt x) lo (pc_wf hi f (a - 1)) → pc_Lv c L H (bt (aV n)) (bt y) (pc_wf lo f a) hi →
      post (nI c, fb, nI (N + 1 + 1), fw, aF, aT, aD, upd (upd aL N (nI lo)) (N + 1) (nI (pc_wf lo f a)), upd (upd aH N (nI (pc_wf hi f (a - 1)))) (N + 1) (nI hi), upd (upd aV N x) (N + 1) y, aC', aA', upd (upd (upd aE N (-4)) n (nI N)) (N + 1) (-4), aY)) :
    ∀ d f (best : Int32) (aC aA : Nat → Int32), f + d = 3 → pc_CI n lo hi (∀ g, g < f → pc_nb L H r lo hi g) aC0 aA0 best aC aA →
      wX_cut_43 post (nI n) (nI r) (nI c) fb (nI N) fw (d + 1) best (nI f) aF aT aD aL aH aV aC aA aE aY := by
  have hin : vp_in (nI n) 2048 := vp_in_nI (by omega) (by decide)
  have hcl : (nI n).toNatClampNeg = n := nI_clamp (by omega)
  intro d
  induction d with
  | zero =>
    intro f best aC aA hf hC
    have e : f = 3 := by omega
    subst e
    rcases hC.2 with ⟨f, a, hf, v1, v2, eC, eA⟩ | ⟨_, hb⟩
    · have w8 : f ≠ 0 → a < 8 := fun h => by have := pc_fd_8 hi h; omega
      have w16 : a < 16 := by have := pc_fd_16 hhi f; omega
      refine br_t (by decide) (And.intro hin (nm_r (e' := nI f) (by rw [hcl]; exact eC) (And.intro hin (And.intro hin ?_))))
      rw [hcl, eL, eH, eA, show nI a - 1 = nI (a - 1) from (pk_sub (b := 1) (by omega))]
      refine pc_xwith hhi hf (by omega) (fun h => by have := w8 h; omega) (And.intro hin (And.intro hin ?_))
      refine pc_xwith hlo hf w16 w8 (And.intro hin (And.intro hin ?_))
      refine pc_xmake hw (by omega) hlo (pc_wf_lt hhi hf (by omega) (fun h => by have := w8 h; omega)) (fun x hx => ?_)
      refine And.intro hin (nm_e (And.intro hin (And.intro hin ?_)))
      rw [pk_un (show n ≠ N by omega), pk_un (show n ≠ N by omega), eH]
      refine pc_xmake hw hN (pc_wf_lt hlo hf w16 w8) hhi (fun y hy => ?_)
      exact hp f a aC aA x y hf v1 v2 hC.1 eC eA hx hy
    · exfalso
      obtain ⟨f, hf, hx⟩ := pc_edge ht hfl
      rcases hx with hx | hx
      · exact (hb f hf).1 hx
      · exact (hb f hf).2 hx
  | succ d ih =>
    intro f best aC aA hf hC
    have hf3 : f < 3 := by omega
    have x1 := pc_fd_16 hhi f
    have x2 := pc_fd_16 hlo f
    refine br_f (pc_ge3 hf3) (And.intro hin ?_)
    rw [hcl, eL, eH]
    refine pc_xfield (by omega) hf3 (And.intro hin (pc_xfield (by omega) hf3 ⟨3, pc_cut80 hw (by omega) hr hlo hhi hf3 hC (fun b C A h => ih (f + 1) b C A (by omega) ⟨h.1, ?_⟩)⟩))
    rcases h.2 with h5 | h5
    · exact Or.inl h5
    · refine Or.inr ⟨h5.1, fun g hg => ?_⟩
      by_cases e : g = f
      · rw [e]; exact h5.2.2
      · exact h5.2.1 g (by omega)
theorem pc_xcut (hw : pc_WF c L H aF aT) {post : SX → Prop} {N n : Nat} (hn : n < N) (hT : pc_TA c L H S N n aL aH aV aC aA aE)
    (hp : ∀ (N' : Nat) (aL' aH' aV' aC' aA' aE' : Nat → Int32), pc_TA c L H S N' (n + 1) aL' aH' aV' aC' aA' aE' → post (nI c, fb, nI N', fw, aF, aT, aD, aL', aH', aV', aC', aA', aE', aY)) :
    wpX_cut post (nI c, fb, nI N, fw, aF, aT, aD, aL, aH, aV, aC, aA, aE, aY) (nI n) := by
  obtain ⟨lw, hg, lt, cf, ca, lf, T, A⟩ := hT
  have hN := pc_TI_le T
  obtain ⟨eL, eH, eE, _⟩ := A n hn
  obtain ⟨n1, n2, n3, n4, n5⟩ := T.2.1 n hn
  have hop := pc_TI_open T hn
  have hin : vp_in (nI n) 2048 := vp_in_nI (by omega) (by decide)
  have hc := hw.1
  unfold wpX_cut
  dsimp only
  rw [nI_clamp (show n < 2 ^ 31 by omega), eL, eH]
  refine And.intro hin (pc_xfirst hc ?_)
  by_cases hf : pc_fi (bt (aV n)) c 0 < c
  · rw [pc_en_t hf]
    refine br_f (nI_pos (by omega)) (And.intro hin (And.intro hin (pc_xfill hw hf n1 n2 ?_)))
    have htc := n4 _ hf (pc_fi_at hf)
    cases hfl : pc_tc L H (pc_fi (bt (aV n)) c 0) (hg n) (lw n) with
    | false =>
      obtain ⟨ef, hef, hed⟩ := pc_edge htc (pc_nt hfl)
      have hroom : N + 1 < 2047 := by
        rcases hed with h | h
        · exact pc_TI_room T hn hef h.1 h.2
        · exact pc_TI_room T hn hef h.1 h.2
      refine br_t rfl ⟨4, pc_cut43 hw hn (by omega) hf n1 n2 eL eH htc (pc_nt hfl) ?_ 3 0 1000 aC aA rfl ⟨fun _ _ => ⟨rfl, rfl⟩, Or.inr ⟨rfl, fun g hg => by omega⟩⟩⟩
      intro f a aC' aA' x y hf3 v1 v2 hk kC kA hx hy
      refine hp (N + 1 + 1) _ _ _ _ _ _ ⟨fun j => if j = N then lw n else if j = N + 1 then pc_wf (lw n) f a else lw j, fun j => if j = N then pc_wf (hg n) f (a - 1) else if j = N + 1 then hg n else hg j,
        fun j => if j = n then N else if j = N then 0 else if j = N + 1 then 0 else lt j, fun j => if j = n then f else cf j, fun j => if j = n then a else ca j, _, pc_TI_cut T hn hf3 v1 v2 ?_ ?_ ?_ ?_ ?_ ?_ ?_, ?_⟩
      · intro j hj
        have a1 : j ≠ N := by omega
        have a2 : j ≠ N + 1 := by omega
        refine ⟨?_, ?_, ?_⟩
        · rw [if_neg a1, if_neg a2]
        · rw [if_neg a1, if_neg a2]
        · rw [pk_un a2, pk_un a1]
      · intro j hj hne
        rw [if_neg hne, if_neg (show j ≠ N by omega), if_neg (show j ≠ N + 1 by omega), if_neg hne, if_neg hne]
        exact ⟨rfl, rfl, rfl⟩
      · rw [if_pos rfl, if_pos rfl, if_neg (show N ≠ n by omega), if_pos rfl]
        exact ⟨rfl, rfl, rfl⟩
      · rw [if_neg (show N + 1 ≠ N by omega), if_pos rfl, if_neg (show N + 1 ≠ N by omega), if_pos rfl, if_neg (show N + 1 ≠ n by omega), if_neg (show N + 1 ≠ N by omega), if_pos rfl]
        exact ⟨rfl, rfl, rfl⟩
      · rw [if_pos rfl, if_pos rfl, if_pos rfl]
        exact ⟨rfl, rfl, rfl⟩
      · rw [pk_un (show N ≠ N + 1 by omega), pk_us]
        exact hx
      · rw [pk_us]
        exact hy
      · intro j hj
        dsimp only
        by_cases j2 : j = N + 1
        · subst j2
          rw [if_neg (show N + 1 ≠ N by omega), if_pos rfl, if_neg (show N + 1 ≠ N by omega), if_pos rfl, if_neg (show N + 1 ≠ n by omega), if_neg (show N + 1 ≠ N by omega), if_pos rfl, pk_us, pk_us, pk_us]
          exact ⟨rfl, rfl, rfl, fun h => absurd rfl h⟩
        · rw [pk_un j2, pk_un j2, pk_un j2]
          by_cases j1 : j = N
          · subst j1
            rw [if_pos rfl, if_pos rfl, if_neg (show j ≠ n by omega), if_pos rfl, pk_us, pk_us, pk_un (show j ≠ n by omega), pk_us]
            exact ⟨rfl, rfl, rfl, fun h => absurd rfl h⟩
          · rw [pk_un j1, pk_un j1, if_neg j1, if_neg j2, if_neg j1, if_neg j2]
            obtain ⟨b1, b2, b3, b4⟩ := A j (by omega)
            by_cases jn : j = n
            · subst jn
              rw [if_pos rfl, if_pos rfl, if_pos rfl, pk_us]
              refine ⟨b1, b2, ?_, fun _ => ⟨kC, kA⟩⟩
              unfold pc_le
              rw [if_neg (by omega)]
            · rw [if_neg jn, if_neg j1, if_neg j2, if_neg jn, if_neg jn, pk_un jn, pk_un j1]
              refine ⟨b1, b2, b3, fun h => ?_⟩
              rw [(hk j jn).1, (hk j jn).2]
              exact b4 h
    | true =>
      refine br_f (by decide) (hp N aL aH aV aC aA aE ⟨lw, hg, lt, cf, ca, lf, pc_TI_leaf T hn (Or.inr hfl), A⟩)
  · rw [pc_en_f hf]
    refine br_t (by decide) (hp N aL aH aV aC aA aE ⟨lw, hg, lt, cf, ca, lf, pc_TI_leaf T hn (Or.inl ?_), A⟩)
    have := pc_fi_le (bt (aV n)) c
    omega
end
end
section
section
variable {fc fb fn fw : Int32} {aF aT aD aL aH aV aC aA aE aY : Nat → Int32} {c : Nat} {L H : Nat → Nat} {S : Nat → Bool}
theorem pc_xbw45 (hw : pc_WF c L H aF aT) {post : SX → Prop}
    (hp : ∀ (N' : Nat) (aL' aH' aV' aC' aA' aE' : Nat → Int32), pc_TA c L H S N' N' aL' aH' aV' aC' aA' aE' → post (nI c, fb, nI N', fw, aF, aT, aD, aL', aH', aV', aC', aA', aE', aY)) :
    ∀ d n N (aL aH aV aC aA aE : Nat → Int32), n + d = 2048 → pc_TA c L H S N n aL aH aV aC aA aE → wX_buildWithout_45 post (d + 1) (nI n) (nI c) fb (nI N) fw aF aT aD aL aH aV aC aA aE aY := by
  intro d
  induction d with
  | zero =>
    intro n N aL aH aV aC aA aE hd hT
    exfalso
    obtain ⟨lw, hg, lt, cf, ca, lf, T, A⟩ := hT
    have h1 := pc_TI_le T
    have h2 := T.1
    omega
  | succ d ih =>
    intro n N aL aH aV aC aA aE hd hT
    have hb : N ≤ 2047 ∧ n ≤ N := by
      obtain ⟨lw, hg, lt, cf, ca, lf, T, A⟩ := hT
      exact ⟨pc_TI_le T, T.1⟩
    refine pk_le N n (fun h => ?_) (fun h => br_f (nI_ge (b := 2048) (by omega) (by decide)) (pc_xcut hw h hT (fun N' aL' aH' aV' aC' aA' aE' hT' => nm_r (nI_1 n) (ih (n + 1) N' aL' aH' aV' aC' aA' aE' (by omega) hT'))))
    have e : n = N := by omega
    subst e
    exact hp n aL aH aV aC aA aE hT
theorem pc_xbw35 (hw : pc_WF c L H aF aT) {post : SX → Prop} {s : Int32} (hs : ∀ i, i < c → bt s i = S i)
    (hp : ∀ (N' : Nat) (aL' aH' aV' aC' aA' aE' : Nat → Int32), pc_TA c L H S N' N' aL' aH' aV' aC' aA' aE' → post (nI c, fb, nI N', fw, aF, aT, aD, aL', aH', aV', aC', aA', aE', aY)) :
    wX_buildWithout_35 post s (nI c) fb 0 fw aF aT aD aL aH aV aC aA aE aY := by
  unfold wX_buildWithout_35
  refine pc_xmake (N := 0) (lo := 0) (hi := 1023) hw (by decide) (by decide) (by decide) (fun x hx => ⟨2049, pc_xbw45 hw hp 2048 0 1 _ _ _ _ _ _ rfl ⟨fun _ => 0, fun _ => 1023, fun _ => 0, fun _ => 0, fun _ => 0, fun _ => 0, pc_TI_0 rfl rfl rfl ?_, fun j hj => ?_⟩⟩)
  · rw [pk_us]
    refine pc_live (by decide) (by decide) (fun f hf => ?_) hx (fun p _ => ?_)
    · rcases (show f = 0 ∨ f = 1 ∨ f = 2 by omega) with rfl | rfl | rfl <;> decide
    · unfold pc_fr
      exact pc_fi_congr (fun i _ hi => by rw [hs i (by omega)])
  · have e : j = 0 := by omega
    subst e
    rw [pk_us, pk_us, pk_us]
    exact ⟨rfl, rfl, rfl, fun h => absurd rfl h⟩
theorem pc_setA : ∀ c, c < 11 → ∀ i, i < 32 → bt (((1 : Int32) <<< (nI c &&& 31)) - 1) i = decide (i < c) := by decide +kernel
/-- built without rule r -/
theorem pc_xbwR (hw : pc_WF c L H aF aT) {post : SX → Prop} {r : Nat} (hr : r < c)
    (hp : ∀ (N' : Nat) (aL' aH' aV' aC' aA' aE' : Nat → Int32), pc_TA c L H (fun i => decide (i ≠ r)) N' N' aL' aH' aV' aC' aA' aE' → post (nI c, fb, nI N', nI r, aF, aT, aD, aL', aH', aV', aC', aA', aE', aY)) :
    wpX_buildWithout post (nI c, fb, fn, fw, aF, aT, aD, aL, aH, aV, aC, aA, aE, aY) (nI r) := by
  have hc := hw.1
  unfold wpX_buildWithout
  dsimp only
  refine nm_e (br_t (nI_pos' (by omega)) (pc_xbw35 hw (fun i hi => ?_) hp))
  rw [b_and, pc_setA c (by omega) i (by omega), decide_eq_true hi, Bool.true_and, b_xor, b_m1 i (by omega), b_shl r (by omega) 1 (by omega)]
  by_cases e : i = r
  · subst e
    rw [Nat.sub_self, pc_one 0 (by omega), decide_eq_true (Nat.le_refl _), decide_eq_true rfl, decide_eq_false (fun h => h rfl)]; rfl
  · rw [decide_eq_true e]
    by_cases h2 : r ≤ i
    · rw [pc_one (i - r) (by omega), decide_eq_false (p := i - r = 0) (by omega), Bool.and_false]; rfl
    · rw [decide_eq_false h2, Bool.false_and]; rfl
theorem pc_xbw14 (hw : pc_WF c L H aF aT) {post : SX → Prop}
    (hp : ∀ (N' : Nat) (aL' aH' aV' aC' aA' aE' : Nat → Int32), pc_TA c L H (fun _ => true) N' N' aL' aH' aV' aC' aA' aE' → post (nI c, 1, nI N', -4, aF, aT, aD, aL', aH', aV', aC', aA', aE', aY)) :
    wX_build_14 post (nI c) fb fn fw aF aT aD aL aH aV aC aA aE aY := by
  have hc := hw.1
  unfold wX_build_14
  unfold wpX_buildWithout
  dsimp only
  refine nm_e (br_f (by decide) (pc_xbw35 hw (fun i hi => ?_) hp))
  rw [pc_setA c (by omega) i (by omega), decide_eq_true hi]
/-- the relation's word on the tree -/
def pc_TR (c : Nat) (L H : Nat → Nat) (fb fn fw : Int32) (aL aH aV aC aA aE : Nat → Int32) : Prop :=
  ¬ fb = 0 → fw < 0 → ∃ N, fn = nI N ∧ pc_TA c L H (fun _ => true) N N aL aH aV aC aA aE
theorem pc_xbuild (hw : pc_WF c L H aF aT) {post : SX → Prop} (hT : pc_TR c L H fb fn fw aL aH aV aC aA aE)
    (hp : ∀ (fb' fw' : Int32) (N' : Nat) (aL' aH' aV' aC' aA' aE' : Nat → Int32), pc_TA c L H (fun _ => true) N' N' aL' aH' aV' aC' aA' aE' → pc_TR c L H fb' (nI N') fw' aL' aH' aV' aC' aA' aE' →
      post (nI c, fb', nI N', fw', aF, aT, aD, aL', aH', aV', aC', aA', aE', aY)) :
    wpX_build post (nI c, fb, fn, fw, aF, aT, aD, aL, aH, aV, aC, aA, aE, aY) := by
  unfold wpX_build
  dsimp only
  have h14 : wX_build_14 post (nI c) fb fn fw aF aT aD aL aH aV aC aA aE aY := pc_xbw14 hw (fun N' aL' aH' aV' aC' aA' aE' h => hp 1 (-4) N' aL' aH' aV' aC' aA' aE' h (fun _ _ => ⟨N', rfl, h⟩))
  refine br_c (fun _ => h14) (fun h1 => br_c (fun h2 => ?_) (fun _ => h14))
  obtain ⟨N, e, h⟩ := hT h1 h2
  subst e
  exact hp fb fw N aL aH aV aC aA aE h (fun _ _ => ⟨N, rfl, h⟩)
theorem pc_le_0 : pc_le 0 = -4 := rfl
theorem pc_le_n {l : Nat} (h : l ≠ 0) : pc_le l = nI l := if_neg h
theorem pc_xleaf4 {lw hg lt cf ca lf : Nat → Nat} {post : Int32 → Prop} {N p : Nat} (T : pc_TI c L H S N N lw hg (fun j => bt (aV j)) lt cf ca lf)
    (A : ∀ j, j < N → aL j = nI (lw j) ∧ aH j = nI (hg j) ∧ aE j = pc_le (lt j) ∧ (lt j ≠ 0 → aC j = nI (cf j) ∧ aA j = nI (ca j))) (hpp : p < 1024) (hp : post (nI (lf p))) :
    ∀ d i n, i + d = 2048 → i ≤ n → n < N → pc_bx (lw n) (hg n) p = true → wX_leafOf_4 post (nI p) fc fb fn fw aF aT aD aL aH aV aC aA aE aY (d + 1) (nI n) (nI i) := by
  have hN := pc_TI_le T
  intro d
  induction d with
  | zero => intro i n hd hi hn hb; omega
  | succ d ih =>
    intro i n hd hi hn hb
    have hin : vp_in (nI n) 2048 := vp_in_nI (by omega) (by decide)
    have hcl : (nI n).toNatClampNeg = n := nI_clamp (by omega)
    obtain ⟨_, _, eE, eCA⟩ := A n hn
    refine br_f (nI_ge (b := 2048) (by omega) (by decide)) (And.intro hin ?_)
    rw [hcl]
    by_cases hl : lt n = 0
    · rw [eE, hl, pc_le_0]
      refine br_t (by decide) ?_
      rw [((T.2.2.2.2.1 p hpp).2.2.2 n hn hl).mp hb] at hp
      exact hp
    · obtain ⟨_, k1, k2, k3, k4, k5⟩ := T.2.2.1 n hn hl
      obtain ⟨eC, eA⟩ := eCA hl
      have x1 := pc_fd_16 hpp (cf n)
      rw [eE, pc_le_n hl, eC, eA]
      refine br_f (nI_pos (by omega)) (And.intro hin (pc_xfield (by omega) k3 (And.intro hin ?_)))
      refine pk_le (ca n) (pc_fd p (cf n)) (fun h => And.intro hin (nm_r (nI_1 _) (nm_r (nI_1 i) (ih (i + 1) (lt n + 1) (by omega) (by omega) k2 ((k5 p hb).2 h))))) (fun h => And.intro hin (nm_e (nm_r (nI_1 i) (ih (i + 1) (lt n) (by omega) (by omega) (by omega) ((k5 p hb).1 h)))))
theorem pc_xleaf {lw hg lt cf ca lf : Nat → Nat} {post : Int32 → Prop} {N p : Nat} (T : pc_TI c L H S N N lw hg (fun j => bt (aV j)) lt cf ca lf)
    (A : ∀ j, j < N → aL j = nI (lw j) ∧ aH j = nI (hg j) ∧ aE j = pc_le (lt j) ∧ (lt j ≠ 0 → aC j = nI (cf j) ∧ aA j = nI (ca j))) (hpp : p < 1024) (hp : post (nI (lf p))) :
    wpX_leafOf post (fc, fb, fn, fw, aF, aT, aD, aL, aH, aV, aC, aA, aE, aY) (nI p) :=
  ⟨2049, pc_xleaf4 T A hpp hp 2048 0 0 rfl (Nat.le_refl _) (by have := (T.2.2.2.2.1 p hpp).2.1; omega) (T.2.2.2.2.1 p hpp).1⟩
/-- the rule that decides p -/
def pc_de (L H : Nat → Nat) (c p : Nat) : Nat := pc_fi (fun r => pc_ru L H r p) c 0
theorem pc_de_fr (L H : Nat → Nat) (c p : Nat) : pc_fr L H c (fun _ => true) p = pc_de L H c p := rfl
theorem pc_xdecide (hw : pc_WF c L H aF aT) {post : Int32 → SX → Prop} {p : Nat} (hpp : p < 1024) (hT : pc_TR c L H fb fn fw aL aH aV aC aA aE)
    (hp : ∀ (fb' fw' : Int32) (N' : Nat) (aL' aH' aV' aC' aA' aE' : Nat → Int32), pc_TR c L H fb' (nI N') fw' aL' aH' aV' aC' aA' aE' →
      post (pc_en c (pc_de L H c p)) (nI c, fb', nI N', fw', aF, aT, aD, aL', aH', aV', aC', aA', aE', aY)) :
    wpX_decide post (nI c, fb, fn, fw, aF, aT, aD, aL, aH, aV, aC, aA, aE, aY) (nI p) := by
  unfold wpX_decide
  dsimp only
  unfold wpX_badPacket
  dsimp only
  refine br_f (nI_pos (by omega)) (br_t (nI_lt (b := 1024) (by omega) (by decide)) (br_t rfl (pc_xbuild hw hT (fun fb' fw' N' aL' aH' aV' aC' aA' aE' hTA hTR => ?_))))
  dsimp only
  obtain ⟨lw, hg, lt, cf, ca, lf, T, A⟩ := hTA
  have hN := pc_TI_le T
  have hl := (T.2.2.2.2.1 p hpp).2.1
  refine pc_xleaf T A hpp (And.intro (vp_in_nI (by omega) (by decide)) (pc_xfirst hw.1 ?_))
  rw [nI_clamp (by omega), ← pc_TI_dec T hpp, pc_de_fr]
  exact hp fb' fw' N' aL' aH' aV' aC' aA' aE' hTR
theorem pc_xdecideB {post : Int32 → SX → Prop} {x : Int32} {u : SX} (hx : x < 0 ∨ ¬ x < 1024) (hp : post (-1) u) : wpX_decide post u x := by
  obtain ⟨fc, fb, fn, fw, aF, aT, aD, aL, aH, aV, aC, aA, aE, aY⟩ := u
  unfold wpX_decide
  dsimp only
  unfold wpX_badPacket
  dsimp only
  by_cases h0 : x < 0
  · exact br_t h0 (br_f (by decide) hp)
  · exact br_f h0 (br_f (hx.resolve_left h0) (br_f (by decide) hp))
end
end
section
/-! the sizes of boxes, added up by leaves -/
theorem pc_mulk (s a b : Nat) (h : b ≤ a) : nI s * ((nI a - nI b) + 1) = nI (s * (a + 1 - b)) := by
  rw [pk_sub h, nI_1, pk_mul, show a - b + 1 = a + 1 - b by omega]
section
variable {fc fb fn fw : Int32} {aF aT aD aL aH aV aC aA aE aY : Nat → Int32} {c : Nat} {L H : Nat → Nat} {S : Nat → Bool}
theorem pc_xsize5 {post : Int32 → Prop} {lo hi f n s : Nat} (hlo : lo < 1024) (hhi : hi < 1024) (hf : f < 3) (hle : pc_fd lo f ≤ pc_fd hi f)
    (h : wX_sizeOf_5 post (nI lo) (nI hi) fc fb fn fw aF aT aD aL aH aV aC aA aE aY n (nI (s * (pc_fd hi f + 1 - pc_fd lo f))) (nI (f + 1))) : wX_sizeOf_5 post (nI lo) (nI hi) fc fb fn fw aF aT aD aL aH aV aC aA aE aY (n + 1) (nI s) (nI f) :=
  br_f (pc_ge3 hf) (pc_xfield (by omega) hf (pc_xfield (by omega) hf (nm_r (pc_mulk s _ _ hle) (nm_r (nI_1 f) h))))
theorem pc_xsize {post : Int32 → Prop} {lo hi : Nat} (hlo : lo < 1024) (hhi : hi < 1024) (hle : ∀ f, f < 3 → pc_fd lo f ≤ pc_fd hi f)
    (h : post (nI (pc_vo (pc_fd lo) (pc_fd hi)))) : wpX_sizeOf post (fc, fb, fn, fw, aF, aT, aD, aL, aH, aV, aC, aA, aE, aY) (nI lo) (nI hi) :=
  ⟨4, pc_xsize5 (s := 1) (f := 0) hlo hhi (by decide) (hle 0 (by decide)) (pc_xsize5 (f := 1) hlo hhi (by decide) (hle 1 (by decide)) (pc_xsize5 (f := 2) hlo hhi (by decide) (hle 2 (by decide)) (br_t (by decide) h)))⟩
/-- the row of the tally that a rule or none has -/
def pc_ka (c x : Nat) : Nat := if x < c then x else 10
theorem pc_ka_t {c x : Nat} (h : x < c) : pc_ka c x = x := if_pos h
theorem pc_ka_f {c x : Nat} (h : ¬ x < c) : pc_ka c x = 10 := if_neg h
theorem pc_xadd6 {post : SX → Prop} (hp : ∀ aY' : Nat → Int32, (∀ x, x < 11 → aY' x = 0) → ∃ n27 : Nat, wX_addUp_27 post fc fb fn fw n27 0 aF aT aD aL aH aV aC aA aE aY') :
    ∀ d r (aY : Nat → Int32), r + d = 11 → (∀ x, x < r → aY x = 0) → wX_addUp_6 post fc fb fn fw (d + 1) (nI r) aF aT aD aL aH aV aC aA aE aY := by
  intro d
  induction d with
  | zero =>
    intro r aY hd h
    have e : r = 11 := by omega
    subst e
    exact br_t (by decide) (hp aY h)
  | succ d ih =>
    intro r aY hd h
    refine br_f (nI_nlt (a := 10) (by omega) (by decide)) (And.intro (vp_in_nI (by omega) (by decide)) (nm_e (nm_r (nI_1 r) (ih (r + 1) _ (by omega) (fun x hx => ?_)))))
    rw [nI_clamp (by omega)]
    by_cases e : x = r
    · rw [e]; exact pk_us
    · rw [pk_un e]; exact h x (by omega)
theorem pc_xadd27 (hw : pc_WF c L H aF aT) {lw hg lt cf ca lf : Nat → Nat} {post : SX → Prop} {N : Nat} (T : pc_TI c L H S N N lw hg (fun j => bt (aV j)) lt cf ca lf)
    (A : ∀ j, j < N → aL j = nI (lw j) ∧ aH j = nI (hg j) ∧ aE j = pc_le (lt j) ∧ (lt j ≠ 0 → aC j = nI (cf j) ∧ aA j = nI (ca j)))
    (hp : ∀ aY' : Nat → Int32, (∀ x, x < 11 → aY' x = nI (pc_sm (fun j => pc_b1 (decide (lt j = 0) && decide (pc_ka c (pc_fi (bt (aV j)) c 0) = x)) * pc_vo (pc_fd (lw j)) (pc_fd (hg j))) N)) →
      post (nI c, fb, nI N, fw, aF, aT, aD, aL, aH, aV, aC, aA, aE, aY')) :
    ∀ d m (aY : Nat → Int32), m + d = N → (∀ x, x < 11 → aY x = nI (pc_sm (fun j => pc_b1 (decide (lt j = 0) && decide (pc_ka c (pc_fi (bt (aV j)) c 0) = x)) * pc_vo (pc_fd (lw j)) (pc_fd (hg j))) m)) →
      wX_addUp_27 post (nI c) fb (nI N) fw (d + 1) (nI m) aF aT aD aL aH aV aC aA aE aY := by
  have hN := pc_TI_le T
  have hc := hw.1
  intro d
  induction d with
  | zero =>
    intro m aY hd h
    have e : m = N := by omega
    subst e
    exact br_t (nI_le (Nat.le_refl _) (by omega)) (hp aY h)
  | succ d ih =>
    intro m aY hd h
    have hm : m < N := by omega
    have hin : vp_in (nI m) 2048 := vp_in_nI (by omega) (by decide)
    have hcl : (nI m).toNatClampNeg = m := nI_clamp (by omega)
    obtain ⟨eL, eH, eE, _⟩ := A m hm
    obtain ⟨n1, n2, n3, _, _⟩ := T.2.1 m hm
    refine br_f (nI_ge hm (by omega)) (And.intro hin ?_)
    rw [hcl]
    by_cases hl : lt m = 0
    · rw [eE, hl, pc_le_0]
      have h65 : ∀ z, z < 11 → z = pc_ka c (pc_fi (bt (aV m)) c 0) → wX_addUp_65 post (wX_addUp_27 post (nI c) fb (nI N) fw (d + 1)) (nI m) (nI z) (nI c) fb (nI N) fw aF aT aD aL aH aV aC aA aE aY := by
        intro z hz ez
        have hzi : vp_in (nI z) 11 := vp_in_nI hz (by decide)
        unfold wX_addUp_65
        rw [hcl, eL, eH, nI_clamp (show z < 2 ^ 31 by omega), h z hz]
        refine And.intro hin (And.intro hin (pc_xsize n1 n2 n3 (And.intro hzi (And.intro hzi (nm_e (nm_r (nI_1 m) (ih (m + 1) _ (by omega) (fun x hx => ?_))))))))
        rw [pc_sm_s, hl, decide_eq_true rfl, Bool.true_and, ← ez]
        by_cases e : x = z
        · rw [e, pk_us, decide_eq_true rfl, pc_b1t, Nat.one_mul, nI_add]
        · rw [pk_un e, decide_eq_false (fun w => e w.symm), pc_b1f, Nat.zero_mul, Nat.add_zero]
          exact h x hx
      refine br_f (by decide) (And.intro hin (pc_xfirst hc ?_))
      by_cases hf : pc_fi (bt (aV m)) c 0 < c
      · rw [pc_en_t hf]
        exact br_t (nI_pos' (by omega)) (h65 _ (by omega) (pc_ka_t hf).symm)
      · rw [pc_en_f hf]
        exact br_f (by decide) (h65 10 (by omega) (pc_ka_f hf).symm)
    · have hlt := (T.2.2.1 m hm hl).2.2.1
      rw [eE, pc_le_n hl]
      refine br_t (nI_pos' (by omega)) (nm_r (nI_1 m) (ih (m + 1) aY (by omega) (fun x hx => ?_)))
      rw [pc_sm_s, decide_eq_false hl, Bool.false_and, pc_b1f, Nat.zero_mul, Nat.add_zero]
      exact h x hx
/-- how many packets rule x decides (x = 10: those that none decides) -/
def pc_ta (L H : Nat → Nat) (c x : Nat) : Nat := pc_sm (fun p => pc_b1 (decide (pc_ka c (pc_de L H c p) = x))) 1024
theorem pc_fdvol {lo hi : Nat} (hhi : hi < 1024) : pc_sm (fun p => pc_b1 (pc_bx lo hi p && true)) 1024 = pc_vo (pc_fd lo) (pc_fd hi) := by
  have h := pc_vol (lo := pc_fd lo) (hi := pc_fd hi) (pc_fd_16 hhi 0) (pc_fd_8 hi (by decide)) (pc_fd_8 hi (by decide))
  rw [← h]
  apply pc_sm_congr
  intro p _
  rw [Bool.and_true]
  rfl
theorem pc_xadd (hw : pc_WF c L H aF aT) {post : SX → Prop} (hT : pc_TR c L H fb fn fw aL aH aV aC aA aE)
    (hp : ∀ (fb' fw' : Int32) (N' : Nat) (aL' aH' aV' aC' aA' aE' aY' : Nat → Int32), pc_TR c L H fb' (nI N') fw' aL' aH' aV' aC' aA' aE' → (∀ x, x < 11 → aY' x = nI (pc_ta L H c x)) →
      post (nI c, fb', nI N', fw', aF, aT, aD, aL', aH', aV', aC', aA', aE', aY')) :
    wpX_addUp post (nI c, fb, fn, fw, aF, aT, aD, aL, aH, aV, aC, aA, aE, aY) := by
  unfold wpX_addUp
  dsimp only
  refine pc_xbuild hw hT (fun fb' fw' N' aL' aH' aV' aC' aA' aE' hTA hTR => ?_)
  dsimp only
  obtain ⟨lw, hg, lt, cf, ca, lf, T, A⟩ := hTA
  refine ⟨12, pc_xadd6 (fun aY1 h1 => ⟨N' + 1, pc_xadd27 hw T A (fun aY' hY => hp fb' fw' N' aL' aH' aV' aC' aA' aE' aY' hTR (fun x hx => ?_)) N' 0 aY1 (by omega) (fun x hx => h1 x hx)⟩) 11 0 aY rfl (fun x hx => by omega)⟩
  rw [hY x hx]
  have hs := pc_TI_sum T (fun j => decide (pc_ka c (pc_fi (bt (aV' j)) c 0) = x)) (fun _ => true)
  have e1 : pc_sm (fun j => pc_b1 (decide (lt j = 0) && decide (pc_ka c (pc_fi (bt (aV' j)) c 0) = x)) * pc_vo (pc_fd (lw j)) (pc_fd (hg j))) N'
      = pc_sm (fun j => pc_b1 (decide (lt j = 0) && decide (pc_ka c (pc_fi (bt (aV' j)) c 0) = x)) * pc_sm (fun p => pc_b1 (pc_bx (lw j) (hg j) p && true)) 1024) N' :=
    pc_sm_congr N' (fun j hj => by rw [pc_fdvol (T.2.1 j hj).2.1])
  rw [e1, hs]
  unfold pc_ta
  have e2 : pc_sm (fun p => pc_b1 (decide (pc_ka c (pc_fi (bt (aV' (lf p))) c 0) = x) && true)) 1024 = pc_sm (fun p => pc_b1 (decide (pc_ka c (pc_de L H c p) = x))) 1024 :=
    pc_sm_congr 1024 (fun p hpp => by rw [Bool.and_true, ← pc_de_fr, pc_TI_dec T hpp])
  rw [e2]
end
end
section
/-! what a rule decides that no other would: the tree without it -/
/-- the meet of two ranges -/
def pc_mx (a b : Nat) : Nat := if a ≤ b then b else a
def pc_mn (a b : Nat) : Nat := if b ≤ a then b else a
theorem pc_mx_le {a b x : Nat} : pc_mx a b ≤ x ↔ a ≤ x ∧ b ≤ x := by
  unfold pc_mx
  split <;> omega
theorem pc_le_mn {a b x : Nat} : x ≤ pc_mn a b ↔ x ≤ a ∧ x ≤ b := by
  unfold pc_mn
  split <;> omega
section
variable {fc fb fn fw : Int32} {aF aT aD aL aH aV aC aA aE aY : Nat → Int32} {c : Nat} {L H : Nat → Nat} {S : Nat → Bool}
theorem pc_sh98 {post : Int32 → Prop} {J6 : Int32 → Int32 → Prop} {x1 x2 x3 : Int32} {s f a b : Nat} (ha : a < 16) (hb : b < 16) (h : J6 (nI (s * (b + 1 - a))) (nI (f + 1))) :
    wX_sharedSize_98 post J6 x1 x2 x3 (nI s) (nI f) (nI a) (nI b) fc fb fn fw aF aT aD aL aH aV aC aA aE aY := by
  refine pk_le a b (fun h1 => nm_r (pc_mulk s b a h1) (nm_r (nI_1 f) h)) (fun h1 => nm_r (nI_1 f) ?_)
  rw [show b + 1 - a = 0 by omega, Nat.mul_zero] at h
  exact h
theorem pc_sh6 (hw : pc_WF c L H aF aT) {post : Int32 → Prop} {r lo hi f n s : Nat} (hr : r < c) (hlo : lo < 1024) (hhi : hi < 1024) (hf : f < 3)
    (h : wX_sharedSize_6 post (nI r) (nI lo) (nI hi) fc fb fn fw aF aT aD aL aH aV aC aA aE aY n (nI (s * (pc_mn (H (r * 3 + f)) (pc_fd hi f) + 1 - pc_mx (L (r * 3 + f)) (pc_fd lo f)))) (nI (f + 1))) :
    wX_sharedSize_6 post (nI r) (nI lo) (nI hi) fc fb fn fw aF aT aD aL aH aV aC aA aE aY (n + 1) (nI s) (nI f) := by
  obtain ⟨_, _, hLH, hH, _⟩ := hw.2 r hr f hf
  have hin := pc_vin hw hr hf
  have x1 := pc_fd_16 hhi f
  have x2 := pc_fd_16 hlo f
  have h54 : ∀ a, a < 16 → a = pc_mx (L (r * 3 + f)) (pc_fd lo f) → wX_sharedSize_54 post (wX_sharedSize_6 post (nI r) (nI lo) (nI hi) fc fb fn fw aF aT aD aL aH aV aC aA aE aY n) (nI r) (nI lo) (nI hi) (nI s) (nI f) (nI a) fc fb fn fw aF aT aD aL aH aV aC aA aE aY := by
    intro a ha ea
    rw [← ea] at h
    unfold wX_sharedSize_54
    rw [pc_rdT hw hr hf]
    refine And.intro hin (pc_xfield (by omega) hf (pk_le (pc_fd hi f) (H (r * 3 + f)) (fun h1 => pc_xfield (by omega) hf (pc_sh98 ha x1 ?_)) (fun h1 => And.intro hin (pc_sh98 ha hH ?_))))
    · unfold pc_mn at h
      rw [if_pos h1] at h
      exact h
    · unfold pc_mn at h
      rw [if_neg (by omega)] at h
      exact h
  refine br_f (pc_ge3 hf) (And.intro hin ?_)
  rw [pc_rdF hw hr hf]
  refine pc_xfield (by omega) hf (pk_le (L (r * 3 + f)) (pc_fd lo f) (fun h1 => pc_xfield (by omega) hf (h54 _ x2 ?_)) (fun h1 => And.intro hin (h54 _ (by omega) ?_)))
  · unfold pc_mx; rw [if_pos h1]
  · unfold pc_mx; rw [if_neg (by omega)]
theorem pc_xshared (hw : pc_WF c L H aF aT) {post : Int32 → Prop} {r lo hi : Nat} (hr : r < c) (hlo : lo < 1024) (hhi : hi < 1024)
    (h : post (nI (pc_vo (fun f => pc_mx (L (r * 3 + f)) (pc_fd lo f)) (fun f => pc_mn (H (r * 3 + f)) (pc_fd hi f))))) : wpX_sharedSize post (fc, fb, fn, fw, aF, aT, aD, aL, aH, aV, aC, aA, aE, aY) (nI r) (nI lo) (nI hi) :=
  ⟨4, pc_sh6 (s := 1) (f := 0) hw hr hlo hhi (by decide) (pc_sh6 (f := 1) hw hr hlo hhi (by decide) (pc_sh6 (f := 2) hw hr hlo hhi (by decide) (br_t (by decide) h)))⟩
theorem pc_shvol {r lo hi : Nat} (hhi : hi < 1024) : pc_sm (fun p => pc_b1 (pc_bx lo hi p && pc_ru L H r p)) 1024 = pc_vo (fun f => pc_mx (L (r * 3 + f)) (pc_fd lo f)) (fun f => pc_mn (H (r * 3 + f)) (pc_fd hi f)) := by
  have x0 := pc_fd_16 hhi 0
  have x1 := pc_fd_8 hi (f := 1) (by decide)
  have x2 := pc_fd_8 hi (f := 2) (by decide)
  have b0 : ∀ f k, pc_fd hi f < k → pc_mn (H (r * 3 + f)) (pc_fd hi f) < k := fun f k h => Nat.lt_of_le_of_lt (pc_le_mn.mp (Nat.le_refl _)).2 h
  have h := pc_vol (lo := fun f => pc_mx (L (r * 3 + f)) (pc_fd lo f)) (hi := fun f => pc_mn (H (r * 3 + f)) (pc_fd hi f)) (b0 0 16 x0) (b0 1 8 x1) (b0 2 8 x2)
  rw [← h]
  apply pc_sm_congr
  intro p _
  congr 1
  rw [Bool.eq_iff_iff, Bool.and_eq_true, pc_bx_iff, pc_ru_iff, pc_ib_iff]
  constructor
  · intro z f hf
    have z1 := z.1 f hf
    have z2 := z.2 f hf
    exact ⟨pc_mx_le.mpr ⟨z2.1, z1.1⟩, pc_le_mn.mpr ⟨z2.2, z1.2⟩⟩
  · intro z
    refine ⟨fun f hf => ?_, fun f hf => ?_⟩
    · exact ⟨(pc_mx_le.mp (z f hf).1).2, (pc_le_mn.mp (z f hf).2).2⟩
    · exact ⟨(pc_mx_le.mp (z f hf).1).1, (pc_le_mn.mp (z f hf).2).1⟩
/-- the leaf's rule s is none, or a later one that does otherwise -/
def pc_wc (A : Nat → Nat) (c r s : Nat) : Bool := !decide (s < c) || (!decide (A s = A r) && decide (r < s))
theorem pc_xw20 (hw : pc_WF c L H aF aT) {A : Nat → Nat} (hA : ∀ j, j < c → aD j = nI (A j) ∧ A j < 4) {lw hg lt cf ca lf : Nat → Nat} {post : Int32 → SX → Prop} {N r : Nat} (hr : r < c)
    (T : pc_TI c L H S N N lw hg (fun j => bt (aV j)) lt cf ca lf)
    (B : ∀ j, j < N → aL j = nI (lw j) ∧ aH j = nI (hg j) ∧ aE j = pc_le (lt j) ∧ (lt j ≠ 0 → aC j = nI (cf j) ∧ aA j = nI (ca j)))
    {G : Nat → Nat} (hG : ∀ j, G j = pc_b1 (decide (lt j = 0) && pc_wc A c r (pc_fi (bt (aV j)) c 0)) * pc_vo (fun f => pc_mx (L (r * 3 + f)) (pc_fd (lw j) f)) (fun f => pc_mn (H (r * 3 + f)) (pc_fd (hg j) f)))
    (hp : post (nI (pc_sm G N)) (nI c, fb, nI N, fw, aF, aT, aD, aL, aH, aV, aC, aA, aE, aY)) :
    ∀ d m, m + d = N → wX_weight_20 post (nI r) (nI c) fb (nI N) fw aF aT aD aL aH aV aC aA aE aY (d + 1) (nI (pc_sm G m)) (nI m) := by
  have hN := pc_TI_le T
  have hc := hw.1
  intro d
  induction d with
  | zero =>
    intro m hd
    have e : m = N := by omega
    subst e
    exact br_t (nI_le (Nat.le_refl _) (by omega)) hp
  | succ d ih =>
    intro m hd
    have hm : m < N := by omega
    have hin : vp_in (nI m) 2048 := vp_in_nI (by omega) (by decide)
    have hcl : (nI m).toNatClampNeg = m := nI_clamp (by omega)
    obtain ⟨eL, eH, eE, _⟩ := B m hm
    obtain ⟨n1, n2, n3, _, _⟩ := T.2.1 m hm
    have nxt := ih (m + 1) (by omega)
    rw [pc_sm_s] at nxt
    refine br_f (nI_ge hm (by omega)) (And.intro hin ?_)
    rw [hcl]
    by_cases hl : lt m = 0
    · rw [eE, hl, pc_le_0]
      have hGm := hG m
      rw [hl, decide_eq_true rfl, Bool.true_and] at hGm
      have skip : pc_wc A c r (pc_fi (bt (aV m)) c 0) = false → wX_weight_20 post (nI r) (nI c) fb (nI N) fw aF aT aD aL aH aV aC aA aE aY (d + 1) (nI (pc_sm G m)) (nI (m + 1)) := by
        intro z
        rw [z, pc_b1f, Nat.zero_mul] at hGm
        rw [hGm, Nat.add_zero] at nxt
        exact nxt
      have h93 : pc_wc A c r (pc_fi (bt (aV m)) c 0) = true → wX_weight_93 post (wX_weight_20 post (nI r) (nI c) fb (nI N) fw aF aT aD aL aH aV aC aA aE aY (d + 1)) (nI r) (nI (pc_sm G m)) (nI m) (nI c) fb (nI N) fw aF aT aD aL aH aV aC aA aE aY := by
        intro z
        rw [z, pc_b1t, Nat.one_mul] at hGm
        rw [hGm] at nxt
        unfold wX_weight_93
        rw [hcl, eL, eH]
        exact And.intro hin (And.intro hin (pc_xshared hw hr n1 n2 (nm_r (nI_add _ _) (nm_r (nI_1 m) nxt))))
      refine br_f (by decide) (And.intro hin (pc_xfirst hc ?_))
      by_cases hf : pc_fi (bt (aV m)) c 0 < c
      · rw [pc_en_t hf]
        have hsi : vp_in (nI (pc_fi (bt (aV m)) c 0)) 10 := vp_in_nI (by omega) (by decide)
        have hri : vp_in (nI r) 10 := vp_in_nI (by omega) (by decide)
        refine br_f (nI_pos (by omega)) (And.intro hsi (And.intro hri ?_))
        rw [nI_clamp (show pc_fi (bt (aV m)) c 0 < 2 ^ 31 by omega), nI_clamp (show r < 2 ^ 31 by omega), (hA _ hf).1, (hA r hr).1]
        have a1 := (hA _ hf).2
        have a2 := (hA r hr).2
        refine pk_eq (A (pc_fi (bt (aV m)) c 0)) (A r) (fun h1 => ?_) (fun h1 => ?_)
        · refine br_t rfl (nm_r (nI_1 m) (skip ?_))
          unfold pc_wc
          rw [decide_eq_true hf, decide_eq_true h1]; rfl
        · refine br_f (by decide) (br_f (nI_pos (by omega)) (pk_le (pc_fi (bt (aV m)) c 0) r (fun h2 => nm_r (nI_1 m) (skip ?_)) (fun h2 => h93 ?_)))
          · unfold pc_wc
            rw [decide_eq_true hf, decide_eq_false h1, decide_eq_false (show ¬ r < pc_fi (bt (aV m)) c 0 by omega)]; rfl
          · unfold pc_wc
            rw [decide_eq_true hf, decide_eq_false h1, decide_eq_true h2]; rfl
      · rw [pc_en_f hf]
        refine br_t (by decide) (br_f (by decide) (br_t (by decide) (h93 ?_)))
        unfold pc_wc
        rw [decide_eq_false hf]; rfl
    · have hlt := (T.2.2.1 m hm hl).2.2.1
      rw [eE, pc_le_n hl]
      refine br_t (nI_pos' (by omega)) (nm_r (nI_1 m) ?_)
      rw [hG m, decide_eq_false hl, Bool.false_and, pc_b1f, Nat.zero_mul, Nat.add_zero] at nxt
      exact nxt
/-- rule r decides p, and the next one that holds for p does otherwise -/
def pc_wt (L H A : Nat → Nat) (c r p : Nat) : Bool := decide (pc_de L H c p = r) && (!decide (pc_fi (fun i => pc_ru L H i p) (c - (r + 1)) (r + 1) < c) || !decide (A (pc_fi (fun i => pc_ru L H i p) (c - (r + 1)) (r + 1)) = A r))
theorem pc_wt_eq {A : Nat → Nat} {r p : Nat} (hr : r < c) : (pc_wc A c r (pc_fr L H c (fun i => decide (i ≠ r)) p) && pc_ru L H r p) = pc_wt L H A c r p := by
  unfold pc_wt
  have hs := pc_fi_spec (fun i => decide (i ≠ r) && pc_ru L H i p) c 0
  have hd := pc_fi_spec (fun i => pc_ru L H i p) c 0
  have hn := pc_fi_spec (fun i => pc_ru L H i p) (c - (r + 1)) (r + 1)
  have es : pc_fr L H c (fun i => decide (i ≠ r)) p = pc_fi (fun i => decide (i ≠ r) && pc_ru L H i p) c 0 := rfl
  have ed : pc_de L H c p = pc_fi (fun i => pc_ru L H i p) c 0 := rfl
  rw [es, ed]
  generalize pc_fi (fun i => decide (i ≠ r) && pc_ru L H i p) c 0 = s at hs
  generalize pc_fi (fun i => pc_ru L H i p) c 0 = e at hd
  generalize pc_fi (fun i => pc_ru L H i p) (c - (r + 1)) (r + 1) = w at hn
  obtain ⟨_, s2, s3, s4⟩ := hs
  obtain ⟨_, d2, d3, d4⟩ := hd
  obtain ⟨n1, n2, n3, n4⟩ := hn
  cases hrp : pc_ru L H r p with
  | false =>
    rw [Bool.and_false]
    have : e ≠ r := by
      intro z
      have := d4 (by omega)
      rw [z] at this
      rw [hrp] at this
      exact absurd this (by decide)
    rw [decide_eq_false this]; rfl
  | true =>
    rw [Bool.and_true]
    by_cases hsr : s < r
    · have q := s4 (by omega)
      obtain ⟨_, q2⟩ := pc_and_t q
      have : e ≠ r := by
        intro z
        have := d3 s (Nat.zero_le _) (by omega)
        rw [q2] at this
        exact absurd this (by decide)
      rw [decide_eq_false this]
      unfold pc_wc
      rw [decide_eq_true (show s < c by omega), decide_eq_false (show ¬ r < s by omega), Bool.and_false]; rfl
    · have hsne : s ≠ r := by
        intro z
        have q := s4 (by omega)
        exact of_decide_eq_true (pc_and_t q).1 z
      have hlow : ∀ i, i < s → i ≠ r → pc_ru L H i p = false := by
        intro i hi hne
        have q := s3 i (Nat.zero_le _) hi
        rw [decide_eq_true hne, Bool.true_and] at q
        exact q
      have her : e = r := by
        rcases Nat.lt_trichotomy e r with z | z | z
        · have q := d4 (by omega)
          rw [hlow e (by omega) (by omega)] at q
          exact absurd q (by decide)
        · exact z
        · have q := d3 r (Nat.zero_le _) z
          rw [hrp] at q
          exact absurd q (by decide)
      have hws : w = s := by
        rcases Nat.lt_trichotomy w s with z | z | z
        · have q := n4 (by omega)
          rw [hlow w z (by omega)] at q
          exact absurd q (by decide)
        · exact z
        · have q := n3 s (by omega) z
          have q2 := s4 (by omega)
          rw [q, Bool.and_false] at q2
          exact absurd q2 (by decide)
      rw [her, decide_eq_true rfl, Bool.true_and, hws]
      unfold pc_wc
      rw [decide_eq_true (show r < s by omega), Bool.and_true]
theorem pc_xweight (hw : pc_WF c L H aF aT) {A : Nat → Nat} (hA : ∀ j, j < c → aD j = nI (A j) ∧ A j < 4) {post : Int32 → SX → Prop} {r : Nat} (hr : r < c)
    (hp : ∀ (N' : Nat) (aL' aH' aV' aC' aA' aE' : Nat → Int32), post (nI (pc_sm (fun p => pc_b1 (pc_wt L H A c r p)) 1024)) (nI c, fb, nI N', nI r, aF, aT, aD, aL', aH', aV', aC', aA', aE', aY)) :
    wpX_weight post (nI c, fb, fn, fw, aF, aT, aD, aL, aH, aV, aC, aA, aE, aY) (nI r) := by
  have hc := hw.1
  unfold wpX_weight
  dsimp only
  unfold wpX_noRule
  dsimp only
  refine br_f (nI_pos (by omega)) (br_t (nI_lt hr (by omega)) (br_t rfl (pc_xbwR hw hr (fun N' aL' aH' aV' aC' aA' aE' hTA => ?_))))
  dsimp only
  obtain ⟨lw, hg, lt, cf, ca, lf, T, B⟩ := hTA
  refine ⟨N' + 1, pc_xw20 hw hA hr T B (fun j => rfl) ?_ N' 0 (by omega)⟩
  have hs := pc_TI_sum T (fun j => pc_wc A c r (pc_fi (bt (aV' j)) c 0)) (fun p => pc_ru L H r p)
  have e1 : pc_sm (fun j => pc_b1 (decide (lt j = 0) && pc_wc A c r (pc_fi (bt (aV' j)) c 0)) * pc_vo (fun f => pc_mx (L (r * 3 + f)) (pc_fd (lw j) f)) (fun f => pc_mn (H (r * 3 + f)) (pc_fd (hg j) f))) N'
      = pc_sm (fun j => pc_b1 (decide (lt j = 0) && pc_wc A c r (pc_fi (bt (aV' j)) c 0)) * pc_sm (fun p => pc_b1 (pc_bx (lw j) (hg j) p && pc_ru L H r p)) 1024) N' :=
    pc_sm_congr N' (fun j hj => by rw [pc_shvol (T.2.1 j hj).2.1])
  have e2 : pc_sm (fun p => pc_b1 (pc_wc A c r (pc_fi (bt (aV' (lf p))) c 0) && pc_ru L H r p)) 1024 = pc_sm (fun p => pc_b1 (pc_wt L H A c r p)) 1024 :=
    pc_sm_congr 1024 (fun p hpp => by rw [← pc_wt_eq hr, pc_TI_dec T hpp])
  rw [e1, hs, e2]
  exact hp N' aL' aH' aV' aC' aA' aE'
end
end
section
/-! the least packet with a property, or NONE -/
def pc_Ls (P : Nat → Prop) (x : Int32) : Prop := (∃ p, p < 1024 ∧ x = nI p ∧ P p ∧ ∀ q, q < p → ¬ P q) ∨ (x = -4 ∧ ∀ q, q < 1024 → ¬ P q)
theorem pc_Ls_congr {P Q : Nat → Prop} {x : Int32} (h : ∀ p, p < 1024 → (P p ↔ Q p)) (hP : pc_Ls P x) : pc_Ls Q x := by
  rcases hP with ⟨p, h1, h2, h3, h4⟩ | ⟨h1, h2⟩
  · exact Or.inl ⟨p, h1, h2, (h p h1).mp h3, fun q hq z => h4 q hq ((h q (by omega)).mpr z)⟩
  · exact Or.inr ⟨h1, fun q hq z => h2 q hq ((h q hq).mpr z)⟩
theorem pc_Ls_uniq {P : Nat → Prop} {x y : Int32} (hx : pc_Ls P x) (hy : pc_Ls P y) : x = y := by
  rcases hx with ⟨p, h1, h2, h3, h4⟩ | ⟨h1, h2⟩
  · rcases hy with ⟨q, g1, g2, g3, g4⟩ | ⟨g1, g2⟩
    · have : p = q := by
        rcases Nat.lt_trichotomy p q with z | z | z
        · exact absurd h3 (g4 p z)
        · exact z
        · exact absurd g3 (h4 q z)
      rw [h2, g2, this]
    · exact absurd h3 (g2 p h1)
  · rcases hy with ⟨q, g1, g2, g3, g4⟩ | ⟨g1, g2⟩
    · exact absurd g3 (h2 q g1)
    · rw [h1, g1]
theorem pc_xle (x : Int32) {k : Nat} (hk : k < 2 ^ 31) : x ≤ nI k ↔ x.toInt ≤ (k : Int) := by
  rw [Int32.le_iff_toInt_le, nI_toInt hk]
/-- the packets of one source in a box, from x on -/
def pc_Q1 (s lo hi : Nat) (x : Int32) (p : Nat) : Prop := p / 64 = s ∧ (pc_fd lo 1 ≤ p / 8 % 8 ∧ p / 8 % 8 ≤ pc_fd hi 1) ∧ (pc_fd lo 2 ≤ p % 8 ∧ p % 8 ≤ pc_fd hi 2) ∧ x.toInt ≤ (p : Int)
section
variable {fc fb fn fw : Int32} {aF aT aD aL aH aV aC aA aE aY : Nat → Int32} {c : Nat} {L H : Nat → Nat} {S : Nat → Bool}
theorem pc_xat56 {post : Int32 → Prop} {J8 : Int32 → Prop} {s lo hi g k : Nat} {x x2 z : Int32} (ez : z = nI k) (hs : s < 16) (hlo : lo < 1024) (hhi : hi < 1024) (hg : g < 8) (hk : k < 2 ^ 31)
    (hk1 : s * 64 + g * 8 + pc_fd lo 2 ≤ k) (hk2 : x.toInt ≤ (k : Int)) (hk3 : k = s * 64 + g * 8 + pc_fd lo 2 ∨ x.toInt = (k : Int)) (hgl : pc_fd lo 1 ≤ g) (hgh : g ≤ pc_fd hi 1)
    (hno : ∀ p, p / 8 % 8 < g → ¬ pc_Q1 s lo hi x p) (hp : ∀ y, pc_Ls (pc_Q1 s lo hi x) y → post y)
    (hJ : (∀ p, p / 8 % 8 < g + 1 → ¬ pc_Q1 s lo hi x p) → J8 (nI (g + 1))) :
    wX_leastAt_56 post J8 (nI s) x2 (nI hi) x (nI g) (nI (s * 64 + g * 8)) z fc fb fn fw aF aT aD aL aH aV aC aA aE aY := by
  subst ez
  have f2 := pc_fd_8 hi (f := 2) (by decide)
  unfold wX_leastAt_56
  refine pc_xfield (f := 2) (by omega) (by decide) ?_
  rw [nI_add]
  refine pk_lt (s * 64 + g * 8 + pc_fd hi 2) k (fun h => nm_r (nI_1 g) (hJ (fun p hp1 hq => ?_))) (fun h => hp (nI k) (Or.inl ⟨k, by omega, rfl, ?_, fun q hq hz => ?_⟩))
  · by_cases e : p / 8 % 8 < g
    · exact hno p e hq
    · obtain ⟨q1, q2, q3, q4⟩ := hq
      have : p = s * 64 + g * 8 + p % 8 := by omega
      rcases hk3 with z | z <;> omega
  · have e1 : k / 64 = s := by omega
    have e2 : k / 8 % 8 = g := by omega
    have e3 : k % 8 = k - (s * 64 + g * 8) := by omega
    refine ⟨e1, ⟨by omega, by omega⟩, ⟨by omega, by omega⟩, hk2⟩
  · by_cases e : q / 8 % 8 < g
    · exact hno q e hz
    · obtain ⟨q1, q2, q3, q4⟩ := hz
      rcases hk3 with z | z <;> omega
theorem pc_xat8 {post : Int32 → Prop} {s lo hi : Nat} {x : Int32} (hs : s < 16) (hlo : lo < 1024) (hhi : hi < 1024) (hp : ∀ y, pc_Ls (pc_Q1 s lo hi x) y → post y) :
    ∀ d g, g + d = 8 → pc_fd lo 1 ≤ g → (∀ p, p / 8 % 8 < g → ¬ pc_Q1 s lo hi x p) → wX_leastAt_8 post (nI s) (nI lo) (nI hi) x fc fb fn fw aF aT aD aL aH aV aC aA aE aY (d + 1) (nI g) := by
  have f1 := pc_fd_8 hi (f := 1) (by decide)
  have f2 := pc_fd_8 lo (f := 2) (by decide)
  intro d
  induction d with
  | zero =>
    intro g hd hgl hno
    rw [wX_leastAt_8]
    refine pc_xfield (p := hi) (f := 1) (by omega) (by decide) (br_t (nI_lt (by omega) (by omega)) (hp _ (Or.inr ⟨rfl, fun q _ hz => hno q (by omega) hz⟩)))
  | succ d ih =>
    intro g hd hgl hno
    rw [wX_leastAt_8]
    refine pc_xfield (p := hi) (f := 1) (by omega) (by decide) (pk_lt (pc_fd hi 1) g (fun h => hp _ (Or.inr ⟨rfl, fun q _ hz => hno q (by have := hz.2.1.2; omega) hz⟩)) (fun h => nm_r (e' := nI (s * 64 + g * 8)) ?_ (pc_xfield (p := lo) (f := 2) (by omega) (by decide) (nm_r (nI_add _ _) (br_c (fun h1 => ?_) (fun h1 => ?_))))))
    · rw [show (64 : Int32) = nI 64 from rfl, show (8 : Int32) = nI 8 from rfl, pk_mul, pk_mul, nI_add]
    · rw [pc_xle x (by omega)] at h1
      exact pc_xat56 rfl hs hlo hhi (by omega) (by omega) (Nat.le_refl _) h1 (Or.inl rfl) hgl h hno hp (fun hn => ih (g + 1) (by omega) (by omega) hn)
    · rw [pc_xle x (by omega)] at h1
      obtain ⟨k, hk, e⟩ := nI_of (x := x) (by rw [Int32.lt_iff_toInt_lt, Int32.toInt_zero]; omega)
      have ex : x.toInt = (k : Int) := by rw [e, nI_toInt hk]
      exact pc_xat56 e hs hlo hhi (by omega) hk (by omega) (by omega) (Or.inr ex) hgl h hno hp (fun hn => ih (g + 1) (by omega) (by omega) hn)
theorem pc_xat {post : Int32 → Prop} {s lo hi : Nat} {x : Int32} (hs : s < 16) (hlo : lo < 1024) (hhi : hi < 1024) (hp : ∀ y, pc_Ls (pc_Q1 s lo hi x) y → post y) :
    wpX_leastAt post (fc, fb, fn, fw, aF, aT, aD, aL, aH, aV, aC, aA, aE, aY) (nI s) (nI lo) (nI hi) x := by
  have f1 := pc_fd_8 lo (f := 1) (by decide)
  unfold wpX_leastAt
  dsimp only
  refine pc_xfield (f := 1) (by omega) (by decide) ⟨8 - pc_fd lo 1 + 1, pc_xat8 hs hlo hhi hp (8 - pc_fd lo 1) (pc_fd lo 1) (by omega) (Nat.le_refl _) (fun p hpp hz => ?_)⟩
  have := hz.2.1.1
  omega
/-- the packets of a box, from x on -/
def pc_Q0 (lo hi : Nat) (x : Int32) (p : Nat) : Prop := pc_bx lo hi p = true ∧ x.toInt ≤ (p : Int)
theorem pc_Q0_1 {lo hi s : Nat} {x : Int32} (h1 : pc_fd lo 0 ≤ s) (h2 : s ≤ pc_fd hi 0) (p : Nat) : pc_Q1 s lo hi x p ↔ pc_Q0 lo hi x p ∧ p / 64 = s := by
  unfold pc_Q1 pc_Q0
  rw [pc_bx_iff]
  constructor
  · rintro ⟨a1, a2, a3, a4⟩
    refine ⟨⟨fun f hf => ?_, a4⟩, a1⟩
    rcases (show f = 0 ∨ f = 1 ∨ f = 2 by omega) with rfl | rfl | rfl
    · rw [pc_fd0 p, a1]; exact ⟨h1, h2⟩
    · exact a2
    · exact a3
  · rintro ⟨⟨a1, a4⟩, a2⟩
    exact ⟨a2, a1 1 (by decide), a1 2 (by decide), a4⟩
theorem pc_xin8 {post : Int32 → Prop} {lo hi : Nat} {x : Int32} (hlo : lo < 1024) (hhi : hi < 1024) (hp : ∀ y, pc_Ls (pc_Q0 lo hi x) y → post y) :
    ∀ d s, s + d = 16 → pc_fd lo 0 ≤ s → (∀ p, p / 64 < s → ¬ pc_Q0 lo hi x p) → wX_leastIn_8 post (nI lo) (nI hi) x fc fb fn fw aF aT aD aL aH aV aC aA aE aY (d + 1) (nI s) := by
  have f1 := pc_fd_16 hhi 0
  have hup : ∀ p, pc_Q0 lo hi x p → p / 64 ≤ pc_fd hi 0 := fun p hz => (pc_bx_iff.mp hz.1 0 (by decide)).2
  intro d
  induction d with
  | zero =>
    intro s hd hgl hno
    rw [wX_leastIn_8]
    exact pc_xfield (p := hi) (f := 0) (by omega) (by decide) (br_t (nI_lt (by omega) (by omega)) (hp _ (Or.inr ⟨rfl, fun q _ hz => hno q (by omega) hz⟩)))
  | succ d ih =>
    intro s hd hgl hno
    rw [wX_leastIn_8]
    refine pc_xfield (p := hi) (f := 0) (by omega) (by decide) (pk_lt (pc_fd hi 0) s (fun h => hp _ (Or.inr ⟨rfl, fun q _ hz => hno q (by have := hup q hz; omega) hz⟩)) (fun h => pc_xat (by omega) hlo hhi (fun y hy => ?_)))
    rcases hy with ⟨p, h1, h2, h3, h4⟩ | ⟨h1, h2⟩
    · rw [h2]
      refine br_f (nI_pos (by omega)) (hp _ (Or.inl ⟨p, h1, rfl, ((pc_Q0_1 hgl h p).mp h3).1, fun q hq hz => ?_⟩))
      have hps := ((pc_Q0_1 hgl h p).mp h3).2
      by_cases e : q / 64 < s
      · exact hno q e hz
      · exact h4 q hq ((pc_Q0_1 hgl h q).mpr ⟨hz, by omega⟩)
    · rw [h1]
      refine br_t (by decide) (nm_r (nI_1 s) (ih (s + 1) (by omega) (by omega) (fun q hq hz => ?_)))
      by_cases e : q / 64 < s
      · exact hno q e hz
      · exact h2 q (by have := hup q hz; omega) ((pc_Q0_1 hgl h q).mpr ⟨hz, by omega⟩)
theorem pc_xin {post : Int32 → Prop} {lo hi : Nat} {x : Int32} (hlo : lo < 1024) (hhi : hi < 1024) (hp : ∀ y, pc_Ls (pc_Q0 lo hi x) y → post y) :
    wpX_leastIn post (fc, fb, fn, fw, aF, aT, aD, aL, aH, aV, aC, aA, aE, aY) (nI lo) (nI hi) x := by
  have f1 := pc_fd_16 hlo 0
  unfold wpX_leastIn
  dsimp only
  refine pc_xfield (f := 0) (by omega) (by decide) ⟨16 - pc_fd lo 0 + 1, pc_xin8 hlo hhi hp (16 - pc_fd lo 0) (pc_fd lo 0) (by omega) (Nat.le_refl _) (fun p hpp hz => ?_)⟩
  have h0 : pc_fd lo 0 ≤ p / 64 := (pc_bx_iff.mp hz.1 0 (by decide)).1
  omega
theorem pc_xn21 (hw : pc_WF c L H aF aT) {lw hg lt cf ca lf : Nat → Nat} {post : Int32 → SX → Prop} {N r : Nat} {x : Int32} (hr : r < c)
    (T : pc_TI c L H S N N lw hg (fun j => bt (aV j)) lt cf ca lf)
    (B : ∀ j, j < N → aL j = nI (lw j) ∧ aH j = nI (hg j) ∧ aE j = pc_le (lt j) ∧ (lt j ≠ 0 → aC j = nI (cf j) ∧ aA j = nI (ca j)))
    (hp : ∀ y, pc_Ls (fun p => (x.toInt ≤ (p : Int) ∧ pc_fi (bt (aV (lf p))) c 0 = r) ∧ lf p < N) y → post y (nI c, fb, nI N, fw, aF, aT, aD, aL, aH, aV, aC, aA, aE, aY)) :
    ∀ d m (best : Int32), m + d = N → pc_Ls (fun p => (x.toInt ≤ (p : Int) ∧ pc_fi (bt (aV (lf p))) c 0 = r) ∧ lf p < m) best → wX_next_21 post (nI r) x (nI c) fb (nI N) fw aF aT aD aL aH aV aC aA aE aY (d + 1) best (nI m) := by
  have hN := pc_TI_le T
  have hc := hw.1
  intro d
  induction d with
  | zero =>
    intro m best hd hb
    have e : m = N := by omega
    subst e
    exact br_t (nI_le (Nat.le_refl _) (by omega)) (hp best hb)
  | succ d ih =>
    intro m best hd hb
    have hm : m < N := by omega
    have hin : vp_in (nI m) 2048 := vp_in_nI (by omega) (by decide)
    have hcl : (nI m).toNatClampNeg = m := nI_clamp (by omega)
    obtain ⟨eL, eH, eE, _⟩ := B m hm
    obtain ⟨n1, n2, n3, _, _⟩ := T.2.1 m hm
    have nxt : ∀ b, pc_Ls (fun p => (x.toInt ≤ (p : Int) ∧ pc_fi (bt (aV (lf p))) c 0 = r) ∧ lf p < m + 1) b → wX_next_21 post (nI r) x (nI c) fb (nI N) fw aF aT aD aL aH aV aC aA aE aY (d + 1) b (nI (m + 1)) := fun b h => ih (m + 1) b (by omega) h
    refine br_f (nI_ge hm (by omega)) (And.intro hin ?_)
    rw [hcl]
    by_cases hl : lt m = 0
    · rw [eE, hl, pc_le_0]
      refine br_f (by decide) (And.intro hin (pc_xfirst hc ?_))
      by_cases hf : pc_fi (bt (aV m)) c 0 = r
      · rw [hf, pc_en_t hr]
        refine br_t rfl (And.intro hin (And.intro hin ?_))
        rw [eL, eH]
        refine pc_xin n1 n2 (fun y hy => ?_)
        have hiff : ∀ p, p < 1024 → (pc_Q0 (lw m) (hg m) x p ↔ x.toInt ≤ (p : Int) ∧ lf p = m) := by
          intro p hpp
          unfold pc_Q0
          rw [(T.2.2.2.2.1 p hpp).2.2.2 m hm hl]
          exact And.comm
        rcases hy with ⟨p, h1, h2, h3, h4⟩ | ⟨h1, h2⟩
        · rw [h2]
          have h3' := (hiff p h1).mp h3
          refine br_f (nI_pos (by omega)) ?_
          rcases hb with ⟨b, g1, g2, g3, g4⟩ | ⟨g1, g2⟩
          · rw [g2]
            refine br_f (nI_pos (by omega)) (pk_le b p (fun h => nm_r (nI_1 m) (nxt _ (Or.inl ⟨b, g1, rfl, ⟨g3.1, by omega⟩, fun q hq hz => ?_⟩))) (fun h => nm_r (nI_1 m) (nxt _ (Or.inl ⟨p, h1, rfl, ⟨⟨h3'.1, by rw [h3'.2]; exact hf⟩, by omega⟩, fun q hq hz => ?_⟩))))
            · by_cases e : lf q = m
              · exact h4 q (by omega) ((hiff q (by omega)).mpr ⟨hz.1.1, e⟩)
              · exact g4 q hq ⟨hz.1, by omega⟩
            · by_cases e : lf q = m
              · exact h4 q hq ((hiff q (by omega)).mpr ⟨hz.1.1, e⟩)
              · exact g4 q (by omega) ⟨hz.1, by omega⟩
          · rw [g1]
            refine br_t (by decide) (nm_r (nI_1 m) (nxt _ (Or.inl ⟨p, h1, rfl, ⟨⟨h3'.1, by rw [h3'.2]; exact hf⟩, by omega⟩, fun q hq hz => ?_⟩)))
            by_cases e : lf q = m
            · exact h4 q hq ((hiff q (by omega)).mpr ⟨hz.1.1, e⟩)
            · exact g2 q (by omega) ⟨hz.1, by omega⟩
        · rw [h1]
          refine br_t (by decide) (nm_r (nI_1 m) (nxt _ (pc_Ls_congr (fun p hpp => ⟨fun z => ⟨z.1, by omega⟩, fun z => ⟨z.1, ?_⟩⟩) hb)))
          by_cases e : lf p = m
          · exact absurd ((hiff p hpp).mpr ⟨z.1.1, e⟩) (h2 p hpp)
          · omega
      · refine br_f ?_ (nm_r (nI_1 m) (nxt _ (pc_Ls_congr (fun p hpp => ⟨fun z => ⟨z.1, by omega⟩, fun z => ⟨z.1, ?_⟩⟩) hb)))
        · by_cases hfc : pc_fi (bt (aV m)) c 0 < c
          · rw [pc_en_t hfc]
            exact fun z => hf ((nI_eq (by omega) (by omega)).mp z)
          · rw [pc_en_f hfc]
            intro z
            have := nI_pos' (n := r) (by omega)
            rw [← z] at this
            exact absurd this (by decide)
        · by_cases e : lf p = m
          · exact absurd (by rw [← e]; exact z.1.2) hf
          · omega
    · have hlt := (T.2.2.1 m hm hl).2.2.1
      rw [eE, pc_le_n hl]
      refine br_t (nI_pos' (by omega)) (nm_r (nI_1 m) (nxt _ (pc_Ls_congr (fun p hpp => ⟨fun z => ⟨z.1, by omega⟩, fun z => ⟨z.1, ?_⟩⟩) hb)))
      by_cases e : lf p = m
      · exact absurd (by rw [← e]; exact (T.2.2.2.2.1 p hpp).2.2.1) hl
      · omega
theorem pc_xnext (hw : pc_WF c L H aF aT) {post : Int32 → SX → Prop} {r : Nat} {x : Int32} (hr : r < c) (hT : pc_TR c L H fb fn fw aL aH aV aC aA aE)
    (hp : ∀ (y fb' fw' : Int32) (N' : Nat) (aL' aH' aV' aC' aA' aE' : Nat → Int32), pc_Ls (fun p => x.toInt ≤ (p : Int) ∧ pc_de L H c p = r) y → pc_TR c L H fb' (nI N') fw' aL' aH' aV' aC' aA' aE' →
      post y (nI c, fb', nI N', fw', aF, aT, aD, aL', aH', aV', aC', aA', aE', aY)) :
    wpX_next post (nI c, fb, fn, fw, aF, aT, aD, aL, aH, aV, aC, aA, aE, aY) (nI r) x := by
  have hc := hw.1
  unfold wpX_next
  dsimp only
  unfold wpX_noRule
  dsimp only
  refine br_f (nI_pos (by omega)) (br_t (nI_lt hr (by omega)) (br_t rfl (pc_xbuild hw hT (fun fb' fw' N' aL' aH' aV' aC' aA' aE' hTA hTR => ?_))))
  dsimp only
  obtain ⟨lw, hg, lt, cf, ca, lf, T, B⟩ := hTA
  refine ⟨N' + 1, pc_xn21 hw hr T B (fun y hy => hp y fb' fw' N' aL' aH' aV' aC' aA' aE' (pc_Ls_congr (fun p hpp => ?_) hy) hTR) N' 0 (-4) (by omega) (Or.inr ⟨rfl, fun q _ hz => by omega⟩)⟩
  rw [← pc_de_fr, pc_TI_dec T hpp]
  exact ⟨fun z => z.1, fun z => ⟨z, (T.2.2.2.2.1 p hpp).2.1⟩⟩
end
end
section
/-! the set of the rules that hold, and how many at most do -/
def pc_hs (b : Nat → Bool) : Nat → Int32
  | 0 => 0
  | r + 1 => if b r = true then pc_hs b r ||| ((1 : Int32) <<< (nI r &&& 31)) else pc_hs b r
theorem pc_hs_t {b : Nat → Bool} {r : Nat} (h : b r = true) : pc_hs b (r + 1) = pc_hs b r ||| ((1 : Int32) <<< (nI r &&& 31)) := if_pos h
theorem pc_hs_f {b : Nat → Bool} {r : Nat} (h : b r = false) : pc_hs b (r + 1) = pc_hs b r := if_neg (pc_nt h)
theorem pc_hs_bt (b : Nat → Bool) : ∀ n, n ≤ 32 → ∀ i, i < 32 → bt (pc_hs b n) i = (decide (i < n) && b i) := by
  intro n
  induction n with
  | zero =>
    intro _ i _
    show bt 0 i = _
    rw [b_0, decide_eq_false (by omega)]; rfl
  | succ n ih =>
    intro hn i hi
    cases h : b n with
    | true =>
      rw [pc_hs_t h, pc_bset _ (by omega) hi, ih (by omega) i hi]
      by_cases e : i = n
      · subst e
        rw [decide_eq_true (p := i = i) rfl, Bool.or_true, decide_eq_true (by omega), h]; rfl
      · rw [decide_eq_false e, Bool.or_false]
        by_cases e2 : i < n
        · rw [decide_eq_true e2, decide_eq_true (show i < n + 1 by omega)]
        · rw [decide_eq_false e2, decide_eq_false (show ¬ i < n + 1 by omega)]
    | false =>
      rw [pc_hs_f h, ih (by omega) i hi]
      by_cases e : i = n
      · subst e
        rw [h, Bool.and_false, Bool.and_false]
      · by_cases e2 : i < n
        · rw [decide_eq_true e2, decide_eq_true (show i < n + 1 by omega)]
        · rw [decide_eq_false e2, decide_eq_false (show ¬ i < n + 1 by omega)]
/-- how many rules hold for p -/
def pc_dp (L H : Nat → Nat) (c p : Nat) : Nat := pc_sm (fun r => pc_b1 (pc_ru L H r p)) c
def pc_mf (m : Nat) (f : Nat → Nat) : Nat → Nat
  | 0 => m
  | n + 1 => pc_mx (pc_mf m f n) (f n)
theorem pc_mf_s (m : Nat) (f : Nat → Nat) (n : Nat) : pc_mf m f (n + 1) = pc_mx (pc_mf m f n) (f n) := rfl
theorem pc_mx_l {a b : Nat} (h : b ≤ a) : pc_mx a b = a := by
  unfold pc_mx
  split <;> omega
theorem pc_mx_r {a b : Nat} (h : a ≤ b) : pc_mx a b = b := if_pos h
theorem pc_mf_spec (m : Nat) (f : Nat → Nat) : ∀ n, m ≤ pc_mf m f n ∧ (∀ i, i < n → f i ≤ pc_mf m f n) ∧ (pc_mf m f n = m ∨ ∃ i, i < n ∧ pc_mf m f n = f i) := by
  intro n
  induction n with
  | zero => exact ⟨Nat.le_refl _, fun i hi => by omega, Or.inl rfl⟩
  | succ n ih =>
    obtain ⟨h1, h2, h3⟩ := ih
    rw [pc_mf_s]
    by_cases e : pc_mf m f n ≤ f n
    · rw [pc_mx_r e]
      refine ⟨by omega, fun i hi => ?_, Or.inr ⟨n, by omega, rfl⟩⟩
      by_cases e2 : i = n
      · rw [e2]; exact Nat.le_refl _
      · have := h2 i (by omega)
        omega
    · rw [pc_mx_l (by omega)]
      refine ⟨h1, fun i hi => ?_, ?_⟩
      · by_cases e2 : i = n
        · rw [e2]; omega
        · exact h2 i (by omega)
      · rcases h3 with h | ⟨i, hi, h⟩
        · exact Or.inl h
        · exact Or.inr ⟨i, by omega, h⟩
def pc_mo (g : Nat → Nat → Nat) (c : Nat) : Nat → Nat
  | 0 => 0
  | a + 1 => pc_mf (pc_mo g c a) (g a) c
theorem pc_mo_spec (g : Nat → Nat → Nat) (c : Nat) : ∀ n, (∀ a, a < n → ∀ b, b < c → g a b ≤ pc_mo g c n) ∧ (pc_mo g c n = 0 ∨ ∃ a b, a < n ∧ b < c ∧ pc_mo g c n = g a b) := by
  intro n
  induction n with
  | zero => exact ⟨fun a ha => by omega, Or.inl rfl⟩
  | succ n ih =>
    obtain ⟨h2, h3⟩ := ih
    obtain ⟨g1, g2, g3⟩ := pc_mf_spec (pc_mo g c n) (g n) c
    have e : pc_mo g c (n + 1) = pc_mf (pc_mo g c n) (g n) c := rfl
    rw [e]
    refine ⟨fun a ha b hb => ?_, ?_⟩
    · by_cases e2 : a = n
      · rw [e2]; exact g2 b hb
      · have := h2 a (by omega) b hb
        omega
    · rcases g3 with h | ⟨i, hi, h⟩
      · rw [h]
        rcases h3 with z | ⟨a, b, ha, hb, z⟩
        · exact Or.inl z
        · exact Or.inr ⟨a, b, by omega, hb, z⟩
      · exact Or.inr ⟨n, i, by omega, hi, h⟩
/-- the packet whose fields are the begins of three rules -/
def pc_co (L : Nat → Nat) (a b k : Nat) : Nat := L (a * 3 + 0) * 64 + L (b * 3 + 1) * 8 + L (k * 3 + 2)
theorem pc_argmax (b : Nat → Bool) (f : Nat → Nat) : ∀ c, (∃ r, r < c ∧ b r = true) → ∃ a, a < c ∧ b a = true ∧ ∀ r, r < c → b r = true → f r ≤ f a := by
  intro c
  induction c with
  | zero => rintro ⟨r, h, _⟩; omega
  | succ c ih =>
    rintro ⟨r, hr, hb⟩
    by_cases e : ∃ r, r < c ∧ b r = true
    · obtain ⟨a, h1, h2, h3⟩ := ih e
      by_cases h : b c = true ∧ f a ≤ f c
      · refine ⟨c, by omega, h.1, fun s hs hbs => ?_⟩
        by_cases e2 : s = c
        · rw [e2]; exact Nat.le_refl _
        · have := h3 s (by omega) hbs
          omega
      · refine ⟨a, by omega, h2, fun s hs hbs => ?_⟩
        by_cases e2 : s = c
        · subst e2
          by_cases e3 : f a ≤ f s
          · exact absurd ⟨hbs, e3⟩ h
          · omega
        · exact h3 s (by omega) hbs
    · have er : r = c := by
        by_cases z : r = c
        · exact z
        · exact absurd ⟨r, by omega, hb⟩ e
      subst er
      refine ⟨r, by omega, hb, fun s hs hbs => ?_⟩
      by_cases e2 : s = r
      · rw [e2]; exact Nat.le_refl _
      · exact absurd ⟨s, by omega, hbs⟩ e
section
variable {fc fb fn fw : Int32} {aF aT aD aL aH aV aC aA aE aY : Nat → Int32} {c : Nat} {L H : Nat → Nat} {S : Nat → Bool}
theorem pc_co_lt (hw : pc_WF c L H aF aT) {a b k : Nat} (ha : a < c) (hb : b < c) (hk : k < c) : pc_co L a b k < 1024 ∧ pc_fd (pc_co L a b k) 0 = L (a * 3 + 0) ∧ pc_fd (pc_co L a b k) 1 = L (b * 3 + 1) ∧ pc_fd (pc_co L a b k) 2 = L (k * 3 + 2) := by
  obtain ⟨_, _, a1, a2, _⟩ := hw.2 a ha 0 (by decide)
  obtain ⟨_, _, b1, _, b2⟩ := hw.2 b hb 1 (by decide)
  obtain ⟨_, _, k1, _, k2⟩ := hw.2 k hk 2 (by decide)
  have b3 := b2 (by decide)
  have k3 := k2 (by decide)
  rw [pc_fd0, pc_fd1, pc_fd2]
  unfold pc_co
  refine ⟨by omega, by omega, by omega, by omega⟩
theorem pc_deep_le (hw : pc_WF c L H aF aT) {p : Nat} : pc_dp L H c p = 0 ∨ ∃ a b k, a < c ∧ b < c ∧ k < c ∧ pc_dp L H c p ≤ pc_dp L H c (pc_co L a b k) := by
  by_cases e : ∃ r, r < c ∧ pc_ru L H r p = true
  · obtain ⟨a, a1, a2, a3⟩ := pc_argmax (fun r => pc_ru L H r p) (fun r => L (r * 3 + 0)) c e
    obtain ⟨b, b1, b2, b3⟩ := pc_argmax (fun r => pc_ru L H r p) (fun r => L (r * 3 + 1)) c e
    obtain ⟨k, k1, k2, k3⟩ := pc_argmax (fun r => pc_ru L H r p) (fun r => L (r * 3 + 2)) c e
    refine Or.inr ⟨a, b, k, a1, b1, k1, pc_sm_le c (fun r hr => ?_)⟩
    cases h : pc_ru L H r p with
    | false => exact Nat.zero_le _
    | true =>
      obtain ⟨_, c0, c1, c2⟩ := pc_co_lt hw a1 b1 k1
      have hh : pc_ru L H r (pc_co L a b k) = true := by
        rw [pc_ru_iff]
        intro f hf
        have hx := pc_ru_iff.mp h f hf
        rcases (show f = 0 ∨ f = 1 ∨ f = 2 by omega) with rfl | rfl | rfl
        · have y1 := a3 r hr h
          have y2 := pc_ru_iff.mp a2 0 hf
          rw [c0]
          omega
        · have y1 := b3 r hr h
          have y2 := pc_ru_iff.mp b2 1 hf
          rw [c1]
          omega
        · have y1 := k3 r hr h
          have y2 := pc_ru_iff.mp k2 2 hf
          rw [c2]
          omega
      rw [hh]
      exact Nat.le_refl _
  · refine Or.inl (pc_sm_0 c (fun r hr => ?_))
    rw [pc_bf (fun z => e ⟨r, hr, z⟩)]; rfl
theorem pc_deep_eq (hw : pc_WF c L H aF aT) : pc_mo (fun a b => pc_mf 0 (fun k => pc_dp L H c (pc_co L a b k)) c) c c = pc_mf 0 (fun p => pc_dp L H c p) 1024 := by
  obtain ⟨x1, x2⟩ := pc_mo_spec (fun a b => pc_mf 0 (fun k => pc_dp L H c (pc_co L a b k)) c) c c
  obtain ⟨_, y1, y2⟩ := pc_mf_spec 0 (fun p => pc_dp L H c p) 1024
  apply Nat.le_antisymm
  · rcases x2 with h | ⟨a, b, ha, hb, h⟩
    · rw [h]; exact Nat.zero_le _
    · rw [h]
      obtain ⟨_, _, z⟩ := pc_mf_spec 0 (fun k => pc_dp L H c (pc_co L a b k)) c
      rcases z with z | ⟨k, hk, z⟩
      · rw [z]; exact Nat.zero_le _
      · rw [z]
        exact y1 _ (pc_co_lt hw ha hb hk).1
  · rcases y2 with h | ⟨p, hp, h⟩
    · rw [h]; exact Nat.zero_le _
    · rw [h]
      rcases pc_deep_le hw (p := p) with z | ⟨a, b, k, ha, hb, hk, z⟩
      · rw [z]; exact Nat.zero_le _
      · exact Nat.le_trans z (Nat.le_trans ((pc_mf_spec 0 (fun k => pc_dp L H c (pc_co L a b k)) c).2.1 k hk) (x1 a ha b hb))
/-! the walks -/
theorem pc_xhold14 (hw : pc_WF c L H aF aT) {post : Int32 → Prop} {p : Nat} (hpp : p < 1024) (hp : post (pc_hs (fun r => pc_ru L H r p) c)) :
    ∀ d r, r + d = c → wX_holding_14 post (nI p) (nI c) fb fn fw aF aT aD aL aH aV aC aA aE aY (d + 1) (pc_hs (fun r => pc_ru L H r p) r) (nI r) := by
  have hc := hw.1
  intro d
  induction d with
  | zero =>
    intro r hr
    have e : r = c := by omega
    subst e
    exact br_t (nI_le (Nat.le_refl _) (by omega)) hp
  | succ d ih =>
    intro r hr
    have nxt := ih (r + 1) (by omega)
    refine br_f (nI_ge (by omega) (by omega)) (pc_xtouch hw (by omega) hpp hpp ?_)
    rw [pc_tc_pp]
    cases h : pc_ru L H r p with
    | false =>
      rw [pc_hs_f (b := fun r => pc_ru L H r p) h] at nxt
      exact br_t rfl (nm_r (nI_1 r) nxt)
    | true =>
      rw [pc_hs_t (b := fun r => pc_ru L H r p) h] at nxt
      exact br_f (by decide) (nm_e (nm_r (nI_1 r) nxt))
theorem pc_xhold (hw : pc_WF c L H aF aT) {post : Int32 → Prop} {p : Nat} (hpp : p < 1024) (hp : post (pc_hs (fun r => pc_ru L H r p) c)) : wpX_holding post (nI c, fb, fn, fw, aF, aT, aD, aL, aH, aV, aC, aA, aE, aY) (nI p) := by
  unfold wpX_holding
  dsimp only
  unfold wpX_badPacket
  dsimp only
  exact br_f (nI_pos (by omega)) (br_t (nI_lt (b := 1024) (by omega) (by decide)) (br_t rfl ⟨c + 1, pc_xhold14 hw hpp hp c 0 (by omega)⟩))
theorem pc_xholdB {post : Int32 → Prop} {x : Int32} {u : SX} (hx : x < 0 ∨ ¬ x < 1024) (hp : post (-1)) : wpX_holding post u x := by
  obtain ⟨fc, fb, fn, fw, aF, aT, aD, aL, aH, aV, aC, aA, aE, aY⟩ := u
  unfold wpX_holding
  dsimp only
  unfold wpX_badPacket
  dsimp only
  by_cases h0 : x < 0
  · exact br_t h0 (br_f (by decide) hp)
  · exact br_f h0 (br_f (hx.resolve_left h0) (br_f (by decide) hp))
theorem pc_xrea15 (hw : pc_WF c L H aF aT) {post : Int32 → Prop} {r f n s : Nat} (hr : r < c) (hf : f < 3)
    (h : wX_reach_15 post (nI r) fc fb fn fw aF aT aD aL aH aV aC aA aE aY n (nI (s * (H (r * 3 + f) + 1 - L (r * 3 + f)))) (nI (f + 1))) : wX_reach_15 post (nI r) fc fb fn fw aF aT aD aL aH aV aC aA aE aY (n + 1) (nI s) (nI f) := by
  obtain ⟨_, _, hLH, hH, _⟩ := hw.2 r hr f hf
  have hin := pc_vin hw hr hf
  refine br_f (pc_ge3 hf) (And.intro hin (And.intro hin ?_))
  rw [pc_rdF hw hr hf, pc_rdT hw hr hf]
  exact nm_r (pc_mulk s _ _ hLH) (nm_r (nI_1 f) h)
theorem pc_xreach (hw : pc_WF c L H aF aT) {post : Int32 → Prop} {r : Nat} (hr : r < c) (hp : post (nI (pc_sm (fun p => pc_b1 (pc_ru L H r p)) 1024))) : wpX_reach post (nI c, fb, fn, fw, aF, aT, aD, aL, aH, aV, aC, aA, aE, aY) (nI r) := by
  have hc := hw.1
  unfold wpX_reach
  dsimp only
  unfold wpX_noRule
  dsimp only
  have hv := pc_vol (lo := fun f => L (r * 3 + f)) (hi := fun f => H (r * 3 + f)) (hw.2 r hr 0 (by decide)).2.2.2.1 ((hw.2 r hr 1 (by decide)).2.2.2.2 (by decide)) ((hw.2 r hr 2 (by decide)).2.2.2.2 (by decide))
  have hv2 : pc_sm (fun p => pc_b1 (pc_ru L H r p)) 1024 = pc_vo (fun f => L (r * 3 + f)) (fun f => H (r * 3 + f)) := hv
  rw [hv2] at hp
  exact br_f (nI_pos (by omega)) (br_t (nI_lt hr (by omega)) (br_t rfl ⟨4, pc_xrea15 (s := 1) (f := 0) hw hr (by decide) (pc_xrea15 (f := 1) hw hr (by decide) (pc_xrea15 (f := 2) hw hr (by decide) (br_t (by decide) hp)))⟩))
theorem pc_dp_le (p : Nat) : ∀ n, pc_sm (fun r => pc_b1 (pc_ru L H r p)) n ≤ n := by
  intro n
  have h := pc_sm_le (f := fun r => pc_b1 (pc_ru L H r p)) (g := fun _ => 1) n (fun i _ => by unfold pc_b1; split <;> omega)
  rw [pc_sm_k] at h
  omega
theorem pc_xda51 (hc : c ≤ 10) {post : Int32 → Prop} {J5 : Int32 → Int32 → Prop} {x1 x2 : Int32} {m k p : Nat} (hm : m < 2 ^ 31)
    (hJ : J5 (nI (pc_mx m (pc_dp L H c p))) (nI (k + 1))) :
    ∀ d r, r + d = c → wX_deepestAt_51 post J5 x1 x2 (nI m) (nI k) (pc_hs (fun r => pc_ru L H r p) c) (nI c) fb fn fw aF aT aD aL aH aV aC aA aE aY (d + 1) (nI (pc_sm (fun r => pc_b1 (pc_ru L H r p)) r)) (nI r) := by
  intro d
  induction d with
  | zero =>
    intro r hr
    have e : r = c := by omega
    subst e
    have hb := pc_dp_le (L := L) (H := H) p r
    have he : pc_dp L H r p = pc_sm (fun i => pc_b1 (pc_ru L H i p)) r := rfl
    rw [he] at hJ
    refine br_t (nI_le (Nat.le_refl _) (by omega)) (pk_le (pc_sm (fun i => pc_b1 (pc_ru L H i p)) r) m (fun h => nm_r (nI_1 k) ?_) (fun h => nm_r (nI_1 k) ?_))
    · rw [pc_mx_l h] at hJ
      exact hJ
    · rw [pc_mx_r (by omega)] at hJ
      exact hJ
  | succ d ih =>
    intro r hr
    refine br_f (nI_ge (by omega) (by omega)) (nm_r ?_ (nm_r (nI_1 r) (ih (r + 1) (by omega))))
    rw [pc_bit _ (by omega), pc_hs_bt _ c (by omega) r (by omega), decide_eq_true (by omega), Bool.true_and, nI_add]
    rfl
theorem pc_xda5 (hw : pc_WF c L H aF aT) {post : Int32 → Prop} {a b : Nat} (ha : a < c) (hb : b < c) (hp : post (nI (pc_mf 0 (fun k => pc_dp L H c (pc_co L a b k)) c))) :
    ∀ d k, k + d = c → wX_deepestAt_5 post (nI (L (a * 3 + 0))) (nI (L (b * 3 + 1))) (nI c) fb fn fw aF aT aD aL aH aV aC aA aE aY (d + 1) (nI (pc_mf 0 (fun k => pc_dp L H c (pc_co L a b k)) k)) (nI k) := by
  have hc := hw.1
  intro d
  induction d with
  | zero =>
    intro k hk
    have e : k = c := by omega
    subst e
    exact br_t (nI_le (Nat.le_refl _) (by omega)) hp
  | succ d ih =>
    intro k hk
    have hkc : k < c := by omega
    have hlim : pc_mf 0 (fun k => pc_dp L H c (pc_co L a b k)) k < 2 ^ 31 := by
      rcases (pc_mf_spec 0 (fun k => pc_dp L H c (pc_co L a b k)) k).2.2 with h | ⟨i, _, h⟩
      · omega
      · have : pc_dp L H c (pc_co L a b i) ≤ c := pc_dp_le _ c
        omega
    refine br_f (nI_ge (by omega) (by omega)) (And.intro (pc_vin (f := 2) hw hkc (by decide)) (nm_r (e' := nI (pc_co L a b k)) ?_ (pc_xhold hw (pc_co_lt hw ha hb hkc).1 ⟨c + 1, pc_xda51 hc hlim (ih (k + 1) (by omega)) c 0 (by omega)⟩)))
    have e2 : aF ((nI k * 3) + 2).toNatClampNeg = nI (L (k * 3 + 2)) := pc_rdF (f := 2) hw hkc (by decide)
    rw [e2, show (64 : Int32) = nI 64 from rfl, show (8 : Int32) = nI 8 from rfl, pk_mul, pk_mul, nI_add, nI_add]
    rfl
theorem pc_xd14 (hw : pc_WF c L H aF aT) {post : Int32 → Prop} {J4 : Int32 → Int32 → Prop} {a m : Nat} (ha : a < c) (hm : m ≤ 10)
    (hJ : J4 (nI (pc_mf m (fun b => pc_mf 0 (fun k => pc_dp L H c (pc_co L a b k)) c) c)) (nI (a + 1))) :
    ∀ d b, b + d = c → wX_deepest_14 post J4 (nI a) (nI c) fb fn fw aF aT aD aL aH aV aC aA aE aY (d + 1) (nI (pc_mf m (fun b => pc_mf 0 (fun k => pc_dp L H c (pc_co L a b k)) c) b)) (nI b) := by
  have hc := hw.1
  have hin1 : ∀ b, pc_mf 0 (fun k => pc_dp L H c (pc_co L a b k)) c ≤ 10 := by
    intro b
    rcases (pc_mf_spec 0 (fun k => pc_dp L H c (pc_co L a b k)) c).2.2 with h | ⟨i, _, h⟩
    · omega
    · have : pc_dp L H c (pc_co L a b i) ≤ c := pc_dp_le _ c
      omega
  have hin2 : ∀ n, pc_mf m (fun b => pc_mf 0 (fun k => pc_dp L H c (pc_co L a b k)) c) n ≤ 10 := by
    intro n
    rcases (pc_mf_spec m (fun b => pc_mf 0 (fun k => pc_dp L H c (pc_co L a b k)) c) n).2.2 with h | ⟨i, _, h⟩
    · omega
    · have := hin1 i
      rw [h]; exact this
  intro d
  induction d with
  | zero =>
    intro b hb
    have e : b = c := by omega
    subst e
    exact br_t (nI_le (Nat.le_refl _) (by omega)) (nm_r (nI_1 a) hJ)
  | succ d ih =>
    intro b hb
    have hbc : b < c := by omega
    have nxt := ih (b + 1) (by omega)
    rw [pc_mf_s] at nxt
    have e1 : nI a * 3 = nI (a * 3 + 0) := pk_mul a 3
    have i1 : vp_in (nI a * 3) 30 := by rw [e1]; exact vp_in_nI (by omega) (by decide)
    have r1 : aF (nI a * 3).toNatClampNeg = nI (L (a * 3 + 0)) := by rw [e1, nI_clamp (by omega)]; exact (hw.2 a ha 0 (by decide)).1
    have r2 : aF (nI b * 3 + 1).toNatClampNeg = nI (L (b * 3 + 1)) := pc_rdF (f := 1) hw hbc (by decide)
    refine br_f (nI_ge (by omega) (by omega)) (And.intro i1 (And.intro (pc_vin (f := 1) hw hbc (by decide)) ?_))
    rw [r1, r2]
    have l1 := hin1 b
    have l2 := hin2 b
    refine ⟨c + 1, pc_xda5 hw ha hbc ?_ c 0 (by omega)⟩
    refine pk_le (pc_mf 0 (fun k => pc_dp L H c (pc_co L a b k)) c) (pc_mf m (fun b => pc_mf 0 (fun k => pc_dp L H c (pc_co L a b k)) c) b) (fun h => nm_r (nI_1 b) ?_) (fun h => nm_r (nI_1 b) ?_)
    · rw [pc_mx_l h] at nxt
      exact nxt
    · rw [pc_mx_r (by omega)] at nxt
      exact nxt
theorem pc_xd4 (hw : pc_WF c L H aF aT) {post : Int32 → Prop} (hp : post (nI (pc_mo (fun a b => pc_mf 0 (fun k => pc_dp L H c (pc_co L a b k)) c) c c))) :
    ∀ d a, a + d = c → wX_deepest_4 post (nI c) fb fn fw aF aT aD aL aH aV aC aA aE aY (d + 1) (nI (pc_mo (fun a b => pc_mf 0 (fun k => pc_dp L H c (pc_co L a b k)) c) c a)) (nI a) := by
  have hc := hw.1
  have hin : ∀ n, pc_mo (fun a b => pc_mf 0 (fun k => pc_dp L H c (pc_co L a b k)) c) c n ≤ 10 := by
    intro n
    rcases (pc_mo_spec (fun a b => pc_mf 0 (fun k => pc_dp L H c (pc_co L a b k)) c) c n).2 with h | ⟨a, b, _, _, h⟩
    · omega
    · rcases (pc_mf_spec 0 (fun k => pc_dp L H c (pc_co L a b k)) c).2.2 with z | ⟨i, _, z⟩
      · rw [h, z]; omega
      · have : pc_dp L H c (pc_co L a b i) ≤ c := pc_dp_le _ c
        rw [h, z]; omega
  intro d
  induction d with
  | zero =>
    intro a ha
    have e : a = c := by omega
    subst e
    exact br_t (nI_le (Nat.le_refl _) (by omega)) hp
  | succ d ih =>
    intro a ha
    exact br_f (nI_ge (by omega) (by omega)) ⟨c + 1, pc_xd14 hw (by omega) (hin a) (ih (a + 1) (by omega)) c 0 (by omega)⟩
theorem pc_xdeepest (hw : pc_WF c L H aF aT) {post : Int32 → Prop} (hp : post (nI (pc_mf 0 (fun p => pc_dp L H c p) 1024))) : wpX_deepest post (nI c, fb, fn, fw, aF, aT, aD, aL, aH, aV, aC, aA, aE, aY) := by
  rw [← pc_deep_eq hw] at hp
  exact ⟨c + 1, pc_xd4 hw hp c 0 (by omega)⟩
end
end
section
/-! the reference's walks -/
def pc_l0 (p : Nat) : Nat := p % 16 / 2 ^ (4 - p / 16) * 2 ^ (4 - p / 16)
def pc_h0 (p : Nat) : Nat := pc_l0 p + 2 ^ (4 - p / 16) - 1
def pc_YR (c : Nat) (L H A : Nat → Nat) (aP aG aQ : Nat → Int32) : Prop :=
  ∀ j, j < c → ∃ p g q, p < 80 ∧ g < 64 ∧ q < 256 ∧ aP j = nI p ∧ aG j = nI g ∧ aQ j = nI q ∧ L (j * 3 + 0) = pc_l0 p ∧ H (j * 3 + 0) = pc_h0 p ∧
    L (j * 3 + 1) = g % 8 ∧ H (j * 3 + 1) = g / 8 ∧ L (j * 3 + 2) = q % 8 ∧ H (j * 3 + 2) = q / 8 % 8 ∧ A j = q / 64
theorem pc_d8 {n : Nat} (h : n < 2 ^ 31) : nI n / 8 = nI (n / 8) := pk_div (d := 8) h (by decide) (by decide)
theorem pc_d16 {n : Nat} (h : n < 2 ^ 31) : nI n / 16 = nI (n / 16) := pk_div (d := 16) h (by decide) (by decide)
theorem pc_d64 {n : Nat} (h : n < 2 ^ 31) : nI n / 64 = nI (n / 64) := pk_div (d := 64) h (by decide) (by decide)
theorem pc_m8 {n : Nat} (h : n < 2 ^ 31) : nI n - nI n / 8 * 8 = nI (n % 8) := pk_rem (d := 8) h (by decide) (by decide)
theorem pc_m16 {n : Nat} (h : n < 2 ^ 31) : nI n - nI n / 16 * 16 = nI (n % 16) := pk_rem (d := 16) h (by decide) (by decide)
theorem pc_d8m8 {n : Nat} (h : n < 2 ^ 31) : nI n / 8 - nI n / 8 / 8 * 8 = nI (n / 8 % 8) := by
  rw [pc_d8 h]
  exact pc_m8 (by omega)
theorem pc_pre (s x k : Nat) (hk : k ≤ 4) : s / 2 ^ k = x / 2 ^ k ↔ x / 2 ^ k * 2 ^ k ≤ s ∧ s ≤ x / 2 ^ k * 2 ^ k + 2 ^ k - 1 := by
  rcases (show k = 0 ∨ k = 1 ∨ k = 2 ∨ k = 3 ∨ k = 4 by omega) with rfl | rfl | rfl | rfl | rfl
  · rw [show (2 : Nat) ^ 0 = 1 from rfl]; omega
  · rw [show (2 : Nat) ^ 1 = 2 from rfl]; omega
  · rw [show (2 : Nat) ^ 2 = 4 from rfl]; omega
  · rw [show (2 : Nat) ^ 3 = 8 from rfl]; omega
  · rw [show (2 : Nat) ^ 4 = 16 from rfl]; omega
section
variable {c : Nat} {L H A : Nat → Nat} {aP aG aQ : Nat → Int32}
theorem pc_yholds (hc : c ≤ 10) (hy : pc_YR c L H A aP aG aQ) {gc : Int32} {post : Int32 → Prop} {j p : Nat} (hj : j < c) (hpp : p < 1024) (hp : post (pc_bi (pc_ru L H j p))) :
    wpY_holds post (gc, aP, aG, aQ) (nI j) (nI p) := by
  obtain ⟨u, g, q, hu, hg, hq, eP, eG, eQ, l0, h0, l1, h1, l2, h2, _⟩ := hy j hj
  have hin : vp_in (nI j) 11 := vp_in_nI (by omega) (by decide)
  have key : ∀ b, pc_ru L H j p = b → post (pc_bi b) := by
    intro b e
    subst e
    exact hp
  have hk : 4 - u / 16 ≤ 4 := by omega
  have no : ∀ f, f < 3 → ¬ (L (j * 3 + f) ≤ pc_fd p f ∧ pc_fd p f ≤ H (j * 3 + f)) → post 0 := by
    intro f hf hn
    exact key false (pc_bf (fun z => hn (pc_ru_iff.mp z f hf)))
  have e6 : (4 : Int32) - nI u / 16 = nI (4 - u / 16) := by
    rw [pc_d16 (by omega), show (4 : Int32) = nI 4 from rfl]
    exact pk_sub (by omega)
  have es : nI (p / 64) >>> (nI (4 - u / 16) &&& 31) = nI (p / 64 / 2 ^ (4 - u / 16)) := pk_shrN (by omega) _ _ (s_l _ (by omega))
  have et : (nI u - nI u / 16 * 16) >>> (nI (4 - u / 16) &&& 31) = nI (u % 16 / 2 ^ (4 - u / 16)) := by
    rw [pc_m16 (by omega)]
    exact pk_shrN (by omega) _ _ (s_l _ (by omega))
  have b1 : p / 64 / 2 ^ (4 - u / 16) ≤ p / 64 := Nat.div_le_self _ _
  have b2 : u % 16 / 2 ^ (4 - u / 16) ≤ u % 16 := Nat.div_le_self _ _
  have pre := pc_pre (p / 64) (u % 16) (4 - u / 16) hk
  unfold wpY_holds
  dsimp only
  rw [nI_clamp (show j < 2 ^ 31 by omega), eP, eG, eQ]
  refine And.intro (by decide) (nm_r (pc_d64 (by omega)) (And.intro (by decide) (And.intro (by decide) (nm_r (pc_d8m8 (by omega)) (And.intro (by decide) (nm_r (pc_m8 (by omega)) (And.intro hin (And.intro (by decide) (nm_r e6 (And.intro hin (And.intro (by decide) ?_)))))))))))
  refine pk_eq (p / 64 / 2 ^ (4 - u / 16)) (u % 16 / 2 ^ (4 - u / 16)) (fun h => And.intro hin (And.intro (by decide) ?_)) (fun h => ?_) es et
  · refine pk_lt (p / 8 % 8) (g % 8) (fun x1 => no 1 (by decide) ?_) (fun x1 => And.intro hin (And.intro (by decide) (pk_lt (g / 8) (p / 8 % 8) (fun x2 => no 1 (by decide) ?_) (fun x2 => And.intro hin (And.intro (by decide) (pk_lt (p % 8) (q % 8) (fun x3 => no 2 (by decide) ?_) (fun x3 => And.intro hin (And.intro (by decide) (And.intro (by decide) (pk_lt (q / 8 % 8) (p % 8) (fun x4 => no 2 (by decide) ?_) (fun x4 => key true ?_) (pc_d8m8 (by omega)) rfl)))) rfl (pc_m8 (by omega))))) (pc_d8 (by omega)) rfl))) rfl (pc_m8 (by omega))
    · rw [pc_fd1, l1]; omega
    · rw [pc_fd1, h1]; omega
    · rw [pc_fd2, l2]; omega
    · rw [pc_fd2, h2]; omega
    · rw [pc_ru_iff]
      intro f hf
      rcases (show f = 0 ∨ f = 1 ∨ f = 2 by omega) with rfl | rfl | rfl
      · rw [pc_fd0, l0, h0]
        exact pre.mp h
      · rw [pc_fd1, l1, h1]; omega
      · rw [pc_fd2, l2, h2]; omega
  · refine no 0 (by decide) (fun z => h (pre.mpr ?_))
    rw [pc_fd0, l0, h0] at z
    exact z
theorem pc_yfirst2 (hc : c ≤ 10) (hy : pc_YR c L H A aP aG aQ) {post : Int32 → Prop} {p : Nat} (hpp : p < 1024) :
    ∀ d r, r + d = c → post (pc_en c (pc_fi (fun i => pc_ru L H i p) d r)) → wY_first_2 post (nI p) (nI c) aP aG aQ (d + 1) (nI r) := by
  intro d
  induction d with
  | zero =>
    intro r hr hp
    have e : r = c := by omega
    subst e
    rw [pc_en_f (show ¬ pc_fi (fun i => pc_ru L H i p) 0 r < r from Nat.lt_irrefl r)] at hp
    exact br_t (nI_le (Nat.le_refl _) (by omega)) hp
  | succ d ih =>
    intro r hr hp
    refine br_f (nI_ge (by omega) (by omega)) (pc_yholds hc hy (by omega) hpp ?_)
    cases h : pc_ru L H r p with
    | true =>
      rw [pc_fi_t (b := fun i => pc_ru L H i p) d h, pc_en_t (by omega)] at hp
      exact br_f (by decide) hp
    | false =>
      rw [pc_fi_f (b := fun i => pc_ru L H i p) d (pc_nt h)] at hp
      exact br_t rfl (nm_r (nI_1 r) (ih (r + 1) (by omega) hp))
theorem pc_yfirst (hc : c ≤ 10) (hy : pc_YR c L H A aP aG aQ) {post : Int32 → Prop} {r p : Nat} (hr : r ≤ c) (hpp : p < 1024) (hp : post (pc_en c (pc_fi (fun i => pc_ru L H i p) (c - r) r))) :
    wpY_first post (nI c, aP, aG, aQ) (nI r) (nI p) := ⟨c - r + 1, pc_yfirst2 hc hy hpp (c - r) r (by omega) hp⟩
theorem pc_yfirst0 (hc : c ≤ 10) (hy : pc_YR c L H A aP aG aQ) {post : Int32 → Prop} {p : Nat} (hpp : p < 1024) (hp : post (pc_en c (pc_de L H c p))) :
    wpY_first post (nI c, aP, aG, aQ) 0 (nI p) := pc_yfirst (r := 0) hc hy (Nat.zero_le _) hpp hp
theorem pc_ypk {post : Int32 → Prop} {v : SY} {p : Nat} (hpp : p < 1024) (hp : post 1) : wpY_isPacket post v (nI p) := by
  obtain ⟨gc, aP, aG, aQ⟩ := v
  unfold wpY_isPacket
  dsimp only
  exact br_f (nI_pos (by omega)) (br_f (nI_nlt (a := 1023) (by omega) (by decide)) hp)
theorem pc_ypkB {post : Int32 → Prop} {v : SY} {x : Int32} (hx : x < 0 ∨ ¬ x < 1024) (hp : post 0) : wpY_isPacket post v x := by
  obtain ⟨gc, aP, aG, aQ⟩ := v
  unfold wpY_isPacket
  dsimp only
  by_cases h0 : x < 0
  · exact br_t h0 hp
  · refine br_f h0 (br_t ?_ hp)
    have h := hx.resolve_left h0
    rw [Int32.lt_iff_toInt_lt] at h ⊢
    have a : (1024 : Int32).toInt = 1024 := by decide
    have b : (1023 : Int32).toInt = 1023 := by decide
    omega
theorem pc_yrule {post : Int32 → Prop} {r : Nat} (hc : c ≤ 10) (hr : r < c) (hp : post 1) : wpY_isRule post (nI c, aP, aG, aQ) (nI r) :=
  br_f (nI_pos (by omega)) (br_f (nI_ge hr (by omega)) hp)
theorem pc_yruleB {post : Int32 → Prop} {x : Int32} (hx : x < 0 ∨ nI c ≤ x) (hp : post 0) : wpY_isRule post (nI c, aP, aG, aQ) x := by
  unfold wpY_isRule
  dsimp only
  by_cases h0 : x < 0
  · exact br_t h0 hp
  · exact br_f h0 (br_t (hx.resolve_left h0) hp)
/-- what is done by rule r, or NONE -/
def pc_ac (A : Nat → Nat) (c r : Nat) : Int32 := if r < c then nI (A r) else -4
theorem pc_yact (hc : c ≤ 10) (hy : pc_YR c L H A aP aG aQ) {post : Int32 → Prop} {gc : Int32} {r : Nat} (hp : post (pc_ac A c r)) : wpY_actionOf post (gc, aP, aG, aQ) (pc_en c r) := by
  unfold wpY_actionOf
  dsimp only
  unfold pc_ac at hp
  by_cases h : r < c
  · rw [pc_en_t h]
    rw [if_pos h] at hp
    obtain ⟨u, g, q, hu, hg, hq, eP, eG, eQ, l0, h0, l1, h1, l2, h2, e⟩ := hy r h
    refine br_t (nI_pos' (by omega)) (And.intro (vp_in_nI (by omega) (by decide)) (And.intro (by decide) ?_))
    rw [nI_clamp (by omega), eQ, pc_d64 (by omega), ← e]
    exact hp
  · rw [pc_en_f h]
    rw [if_neg h] at hp
    exact br_f (by decide) hp
theorem pc_yaction (hc : c ≤ 10) (hy : pc_YR c L H A aP aG aQ) {post : Int32 → Prop} {p : Nat} (hpp : p < 1024) (hp : post (pc_ac A c (pc_de L H c p))) :
    wpY_action post (nI c, aP, aG, aQ) (nI p) := by
  unfold wpY_action
  dsimp only
  exact pc_ypk hpp (br_f (by decide) (pc_yfirst0 hc hy hpp (pc_yact hc hy hp)))
theorem pc_yhold14 (hc : c ≤ 10) (hy : pc_YR c L H A aP aG aQ) {post : Int32 → Prop} {p : Nat} (hpp : p < 1024) (hp : post (pc_hs (fun r => pc_ru L H r p) c)) :
    ∀ d r, r + d = c → wY_holding_14 post (nI p) (nI c) aP aG aQ (d + 1) (pc_hs (fun r => pc_ru L H r p) r) (nI r) := by
  intro d
  induction d with
  | zero =>
    intro r hr
    have e : r = c := by omega
    subst e
    exact br_t (nI_le (Nat.le_refl _) (by omega)) hp
  | succ d ih =>
    intro r hr
    have nxt := ih (r + 1) (by omega)
    refine br_f (nI_ge (by omega) (by omega)) (pc_yholds hc hy (by omega) hpp ?_)
    cases h : pc_ru L H r p with
    | false =>
      rw [pc_hs_f (b := fun r => pc_ru L H r p) h] at nxt
      exact br_t rfl (nm_r (nI_1 r) nxt)
    | true =>
      rw [pc_hs_t (b := fun r => pc_ru L H r p) h] at nxt
      exact br_f (by decide) (nm_e (nm_r (nI_1 r) nxt))
theorem pc_yhold (hc : c ≤ 10) (hy : pc_YR c L H A aP aG aQ) {post : Int32 → Prop} {p : Nat} (hpp : p < 1024) (hp : post (pc_hs (fun r => pc_ru L H r p) c)) : wpY_holding post (nI c, aP, aG, aQ) (nI p) := by
  unfold wpY_holding
  dsimp only
  exact pc_ypk hpp (br_f (by decide) ⟨c + 1, pc_yhold14 hc hy hpp hp c 0 (by omega)⟩)
/-! loops that count packets -/
theorem pc_sl (W : Nat → Int32 → Int32 → Prop) (f : Nat → Nat) (M : Nat) (hx : ∀ n, W (n + 1) (nI (pc_sm f M)) (nI M)) (hs : ∀ n p, p < M → W n (nI (pc_sm f (p + 1))) (nI (p + 1)) → W (n + 1) (nI (pc_sm f p)) (nI p)) :
    ∀ d p, p + d = M → W (d + 1) (nI (pc_sm f p)) (nI p) := by
  intro d
  induction d with
  | zero =>
    intro p hp
    rw [show p = M by omega]
    exact hx 0
  | succ d ih =>
    intro p hp
    exact hs (d + 1) p (by omega) (ih (p + 1) (by omega))
theorem pc_ge1024 {p : Nat} (h : p < 1024) : ¬ (1024 : Int32) ≤ nI p := nI_ge (b := 1024) h (by decide)
theorem pc_sm_t {b : Nat → Bool} {p : Nat} (h : b p = true) : nI (pc_sm (fun p => pc_b1 (b p)) p) + 1 = nI (pc_sm (fun p => pc_b1 (b p)) (p + 1)) := by
  rw [nI_1, pc_sm_s, h, pc_b1t]
theorem pc_sm_f {b : Nat → Bool} {p : Nat} (h : b p = false) : pc_sm (fun p => pc_b1 (b p)) (p + 1) = pc_sm (fun p => pc_b1 (b p)) p := by
  rw [pc_sm_s, h, pc_b1f, Nat.add_zero]
theorem pc_yreach (hc : c ≤ 10) (hy : pc_YR c L H A aP aG aQ) {post : Int32 → Prop} {r : Nat} (hr : r < c) (hp : post (nI (pc_sm (fun p => pc_b1 (pc_ru L H r p)) 1024))) : wpY_reach post (nI c, aP, aG, aQ) (nI r) := by
  unfold wpY_reach
  dsimp only
  refine pc_yrule hc hr (br_f (by decide) ⟨1025, pc_sl (fun n x y => wY_reach_15 post (nI r) (nI c) aP aG aQ n x y) (fun p => pc_b1 (pc_ru L H r p)) 1024 (fun n => br_t (by decide) hp) (fun n p hpp nxt => ?_) 1024 0 rfl⟩)
  refine br_f (pc_ge1024 hpp) (pc_yholds hc hy hr hpp ?_)
  cases h : pc_ru L H r p with
  | false =>
    rw [pc_sm_f (b := fun p => pc_ru L H r p) h] at nxt
    exact br_t rfl (nm_r (nI_1 p) nxt)
  | true => exact br_f (by decide) (nm_r (pc_sm_t (b := fun p => pc_ru L H r p) h) (nm_r (nI_1 p) nxt))
theorem pc_en_eq {x r : Nat} (hc : c ≤ 10) (hr : r < c) : pc_en c x = nI r ↔ x = r := by
  by_cases h : x < c
  · rw [pc_en_t h, nI_eq (by omega) (by omega)]
  · rw [pc_en_f h]
    constructor
    · intro z
      have := nI_pos' (n := r) (by omega)
      rw [← z] at this
      exact absurd this (by decide)
    · intro z; omega
theorem pc_en_no {x : Nat} (hc : c ≤ 10) : pc_en c x = -4 ↔ ¬ x < c := by
  by_cases h : x < c
  · rw [pc_en_t h]
    constructor
    · intro z
      have := nI_pos' (n := x) (by omega)
      rw [z] at this
      exact absurd this (by decide)
    · intro z; exact absurd h z
  · rw [pc_en_f h]
    exact ⟨fun _ => h, fun _ => rfl⟩
theorem pc_ydecided (hc : c ≤ 10) (hy : pc_YR c L H A aP aG aQ) {post : Int32 → Prop} {r : Nat} (hr : r < c) (hp : post (nI (pc_sm (fun p => pc_b1 (decide (pc_de L H c p = r))) 1024))) : wpY_decided post (nI c, aP, aG, aQ) (nI r) := by
  unfold wpY_decided
  dsimp only
  refine pc_yrule hc hr (br_f (by decide) ⟨1025, pc_sl (fun n x y => wY_decided_15 post (nI r) (nI c) aP aG aQ n x y) (fun p => pc_b1 (decide (pc_de L H c p = r))) 1024 (fun n => br_t (by decide) hp) (fun n p hpp nxt => ?_) 1024 0 rfl⟩)
  refine br_f (pc_ge1024 hpp) (pc_yfirst0 hc hy hpp ?_)
  by_cases h : pc_de L H c p = r
  · exact br_t ((pc_en_eq hc hr).mpr h) (nm_r (pc_sm_t (b := fun p => decide (pc_de L H c p = r)) (decide_eq_true h)) (nm_r (nI_1 p) nxt))
  · rw [pc_sm_f (b := fun p => decide (pc_de L H c p = r)) (decide_eq_false h)] at nxt
    exact br_f (fun z => h ((pc_en_eq hc hr).mp z)) (nm_r (nI_1 p) nxt)
theorem pc_yundecided (hc : c ≤ 10) (hy : pc_YR c L H A aP aG aQ) {post : Int32 → Prop} (hp : post (nI (pc_sm (fun p => pc_b1 (!decide (pc_de L H c p < c))) 1024))) : wpY_undecided post (nI c, aP, aG, aQ) := by
  refine ⟨1025, pc_sl (fun n x y => wY_undecided_4 post (nI c) aP aG aQ n x y) (fun p => pc_b1 (!decide (pc_de L H c p < c))) 1024 (fun n => br_t (by decide) hp) (fun n p hpp nxt => ?_) 1024 0 rfl⟩
  refine br_f (pc_ge1024 hpp) (pc_yfirst0 hc hy hpp ?_)
  by_cases h : pc_de L H c p < c
  · rw [pc_sm_f (b := fun p => !decide (pc_de L H c p < c)) (by rw [decide_eq_true h]; rfl)] at nxt
    exact br_f (fun z => (pc_en_no hc).mp z h) (nm_r (nI_1 p) nxt)
  · exact br_t ((pc_en_no hc).mpr h) (nm_r (pc_sm_t (b := fun p => !decide (pc_de L H c p < c)) (by rw [decide_eq_false h]; rfl)) (nm_r (nI_1 p) nxt))
theorem pc_yacted (hc : c ≤ 10) (hy : pc_YR c L H A aP aG aQ) {post : Int32 → Prop} {x : Int32} (h0 : ¬ x < 0) (h3 : x ≤ 3) (hp : post (nI (pc_sm (fun p => pc_b1 (decide (pc_ac A c (pc_de L H c p) = x))) 1024))) : wpY_acted post (nI c, aP, aG, aQ) x := by
  unfold wpY_acted
  dsimp only
  refine br_f h0 (br_t h3 ⟨1025, pc_sl (fun n y z => wY_acted_15 post x (nI c) aP aG aQ n y z) (fun p => pc_b1 (decide (pc_ac A c (pc_de L H c p) = x))) 1024 (fun n => br_t (by decide) hp) (fun n p hpp nxt => ?_) 1024 0 rfl⟩)
  refine br_f (pc_ge1024 hpp) (pc_yaction hc hy hpp ?_)
  by_cases h : pc_ac A c (pc_de L H c p) = x
  · exact br_t h (nm_r (pc_sm_t (b := fun p => decide (pc_ac A c (pc_de L H c p) = x)) (decide_eq_true h)) (nm_r (nI_1 p) nxt))
  · rw [pc_sm_f (b := fun p => decide (pc_ac A c (pc_de L H c p) = x)) (decide_eq_false h)] at nxt
    exact br_f h (nm_r (nI_1 p) nxt)
theorem pc_yidle (hc : c ≤ 10) (hy : pc_YR c L H A aP aG aQ) {post : Int32 → Prop} (hp : post (nI (pc_sm (fun r => pc_b1 (decide (nI (pc_sm (fun p => pc_b1 (decide (pc_de L H c p = r))) 1024) = 0))) c))) : wpY_idle post (nI c, aP, aG, aQ) := by
  refine ⟨c + 1, pc_sl (fun n y z => wY_idle_4 post (nI c) aP aG aQ n y z) (fun r => pc_b1 (decide (nI (pc_sm (fun p => pc_b1 (decide (pc_de L H c p = r))) 1024) = 0))) c (fun n => br_t (nI_le (Nat.le_refl _) (by omega)) hp) (fun n r hr nxt => ?_) c 0 (by omega)⟩
  refine br_f (nI_ge hr (by omega)) (pc_ydecided hc hy hr ?_)
  by_cases h : nI (pc_sm (fun p => pc_b1 (decide (pc_de L H c p = r))) 1024) = 0
  · exact br_t h (nm_r (pc_sm_t (b := fun r => decide (nI (pc_sm (fun p => pc_b1 (decide (pc_de L H c p = r))) 1024) = 0)) (decide_eq_true h)) (nm_r (nI_1 r) nxt))
  · rw [pc_sm_f (b := fun r => decide (nI (pc_sm (fun p => pc_b1 (decide (pc_de L H c p = r))) 1024) = 0)) (decide_eq_false h)] at nxt
    exact br_f h (nm_r (nI_1 r) nxt)
theorem pc_yweight (hc : c ≤ 10) (hy : pc_YR c L H A aP aG aQ) (hA : ∀ j, j < c → A j < 4) {post : Int32 → Prop} {r : Nat} (hr : r < c) (hp : post (nI (pc_sm (fun p => pc_b1 (pc_wt L H A c r p)) 1024))) : wpY_weight post (nI c, aP, aG, aQ) (nI r) := by
  unfold wpY_weight
  dsimp only
  refine pc_yrule hc hr (br_f (by decide) ⟨1025, pc_sl (fun n x y => wY_weight_15 post (nI r) (nI c) aP aG aQ n x y) (fun p => pc_b1 (pc_wt L H A c r p)) 1024 (fun n => br_t (by decide) hp) (fun n p hpp nxt => ?_) 1024 0 rfl⟩)
  refine br_f (pc_ge1024 hpp) (pc_yfirst0 hc hy hpp ?_)
  have key : ∀ b, pc_wt L H A c r p = b → wY_weight_15 post (nI r) (nI c) aP aG aQ n (nI (pc_sm (fun p => pc_b1 (pc_wt L H A c r p)) p + pc_b1 b)) (nI (p + 1)) := by
    intro b e
    subst e
    exact nxt
  by_cases h : pc_de L H c p = r
  · refine br_t ((pc_en_eq hc hr).mpr h) ?_
    rw [nI_1 r]
    refine pc_yfirst (r := r + 1) hc hy hr hpp (pc_yact hc hy ?_)
    rw [← pc_en_t hr]
    refine pc_yact hc hy ?_
    have er : pc_ac A c r = nI (A r) := if_pos hr
    rw [pc_en_t hr, er]
    have a1 := hA r hr
    by_cases hw : pc_fi (fun i => pc_ru L H i p) (c - (r + 1)) (r + 1) < c
    · have ew : pc_ac A c (pc_fi (fun i => pc_ru L H i p) (c - (r + 1)) (r + 1)) = nI (A (pc_fi (fun i => pc_ru L H i p) (c - (r + 1)) (r + 1))) := if_pos hw
      have a2 := hA _ hw
      rw [ew]
      refine pk_eq (A (pc_fi (fun i => pc_ru L H i p) (c - (r + 1)) (r + 1))) (A r) (fun z => nm_r (nI_1 p) (key false ?_)) (fun z => nm_r (nI_1 _) (nm_r (nI_1 p) (key true ?_)))
      · unfold pc_wt
        rw [decide_eq_true h, decide_eq_true hw, decide_eq_true z]; rfl
      · unfold pc_wt
        rw [decide_eq_true h, decide_eq_true hw, decide_eq_false z]; rfl
    · have ew : pc_ac A c (pc_fi (fun i => pc_ru L H i p) (c - (r + 1)) (r + 1)) = -4 := if_neg hw
      rw [ew]
      refine br_f (fun z => ?_) (nm_r (nI_1 _) (nm_r (nI_1 p) (key true ?_)))
      · have := nI_pos' (n := A r) (by omega)
        rw [← z] at this
        exact absurd this (by decide)
      · unfold pc_wt
        rw [decide_eq_true h, decide_eq_false hw]; rfl
  · refine br_f (fun z => h ((pc_en_eq hc hr).mp z)) (nm_r (nI_1 p) (key false ?_))
    unfold pc_wt
    rw [decide_eq_false h]; rfl
theorem pc_ynext10 (hc : c ≤ 10) (hy : pc_YR c L H A aP aG aQ) {post : Int32 → Prop} {r : Nat} {x : Int32} (hr : r < c) (hp : ∀ y, pc_Ls (fun p => x.toInt ≤ (p : Int) ∧ pc_de L H c p = r) y → post y) :
    ∀ (d p : Nat), 1024 ≤ p + d → p < 2 ^ 31 → x.toInt ≤ (p : Int) → (∀ q : Nat, q < p → q < 1024 → ¬ (x.toInt ≤ (q : Int) ∧ pc_de L H c q = r)) → wY_next_10 post (nI r) (nI c) aP aG aQ (d + 1) (nI p) := by
  intro d
  induction d with
  | zero =>
    intro p h1 h2 h3 h4
    exact br_t (nI_le (a := 1024) (by omega) h2) (hp _ (Or.inr ⟨rfl, fun q hq => h4 q (by omega) hq⟩))
  | succ d ih =>
    intro p h1 h2 h3 h4
    refine pk_le 1024 p (fun h => hp _ (Or.inr ⟨rfl, fun q hq => h4 q (by omega) hq⟩)) (fun h => pc_yrule hc hr (br_f (by decide) (pc_yfirst0 hc hy h ?_)))
    by_cases e : pc_de L H c p = r
    · exact br_t ((pc_en_eq hc hr).mpr e) (hp _ (Or.inl ⟨p, h, rfl, ⟨h3, e⟩, fun q hq => h4 q hq (by omega)⟩))
    · refine br_f (fun z => e ((pc_en_eq hc hr).mp z)) (nm_r (nI_1 p) (ih (p + 1) (by omega) (by omega) (by omega) (fun q hq hq2 hz => ?_)))
      by_cases eq : q = p
      · rw [eq] at hz
        exact e hz.2
      · exact h4 q (by omega) hq2 hz
theorem pc_ynext (hc : c ≤ 10) (hy : pc_YR c L H A aP aG aQ) {post : Int32 → Prop} {r : Nat} {x : Int32} (hr : r < c) (hp : ∀ y, pc_Ls (fun p => x.toInt ≤ (p : Int) ∧ pc_de L H c p = r) y → post y) : wpY_next post (nI c, aP, aG, aQ) (nI r) x := by
  unfold wpY_next
  dsimp only
  by_cases h0 : x < 0
  · refine br_f (fun z => Int32.not_lt.mpr z h0) ⟨1025, pc_ynext10 hc hy hr hp 1024 0 (by decide) (by decide) ?_ (fun q hq => by omega)⟩
    rw [Int32.lt_iff_toInt_lt, Int32.toInt_zero] at h0
    omega
  · obtain ⟨k, hk, e⟩ := nI_of h0
    have ex : x.toInt = (k : Int) := by rw [e, nI_toInt hk]
    have h10 := pc_ynext10 hc hy hr hp 1024 k (by omega) hk (by omega) (fun q hq _ hz => by omega)
    rw [← e] at h10
    exact br_t (Int32.not_lt.mp h0) ⟨1025, h10⟩
theorem pc_ynextB (hc : c ≤ 10) {post : Int32 → Prop} {x y : Int32} (hx : x < 0 ∨ nI c ≤ x) (hp : post (-4)) : wpY_next post (nI c, aP, aG, aQ) x y := by
  have h : ∀ z, wY_next_10 post x (nI c) aP aG aQ 1 z := by
    intro z
    by_cases hz : (1024 : Int32) ≤ z
    · exact br_t hz hp
    · exact br_f hz (pc_yruleB hx (br_t rfl hp))
  unfold wpY_next
  dsimp only
  exact br_c (fun _ => ⟨1, h y⟩) (fun _ => ⟨1, h 0⟩)
theorem pc_yd16 (hc : c ≤ 10) (hy : pc_YR c L H A aP aG aQ) {post : Int32 → Prop} {J4 : Int32 → Int32 → Prop} {m p : Nat} (hm : m ≤ 10) (hpp : p < 1024) (hJ : J4 (nI (pc_mx m (pc_dp L H c p))) (nI (p + 1))) :
    ∀ d r, r + d = c → wY_deepest_16 post J4 (nI m) (nI p) (nI c) aP aG aQ (d + 1) (nI (pc_sm (fun r => pc_b1 (pc_ru L H r p)) r)) (nI r) := by
  have hb : pc_sm (fun i => pc_b1 (pc_ru L H i p)) c ≤ c := pc_dp_le p c
  have he : pc_dp L H c p = pc_sm (fun i => pc_b1 (pc_ru L H i p)) c := rfl
  rw [he] at hJ
  refine pc_sl (fun n x y => wY_deepest_16 post J4 (nI m) (nI p) (nI c) aP aG aQ n x y) (fun r => pc_b1 (pc_ru L H r p)) c (fun n => br_t (nI_le (Nat.le_refl _) (by omega)) ?_) (fun n r hr nxt => ?_)
  · refine pk_le (pc_sm (fun i => pc_b1 (pc_ru L H i p)) c) m (fun h => nm_r (nI_1 p) ?_) (fun h => nm_r (nI_1 p) ?_)
    · rw [pc_mx_l h] at hJ
      exact hJ
    · rw [pc_mx_r (by omega)] at hJ
      exact hJ
  · refine br_f (nI_ge hr (by omega)) (pc_yholds hc hy hr hpp ?_)
    cases h : pc_ru L H r p with
    | false =>
      rw [pc_sm_f (b := fun r => pc_ru L H r p) h] at nxt
      exact br_t rfl (nm_r (nI_1 r) nxt)
    | true => exact br_f (by decide) (nm_r (pc_sm_t (b := fun r => pc_ru L H r p) h) (nm_r (nI_1 r) nxt))
theorem pc_yd4 (hc : c ≤ 10) (hy : pc_YR c L H A aP aG aQ) {post : Int32 → Prop} (hp : post (nI (pc_mf 0 (fun p => pc_dp L H c p) 1024))) :
    ∀ d p, p + d = 1024 → wY_deepest_4 post (nI c) aP aG aQ (d + 1) (nI (pc_mf 0 (fun p => pc_dp L H c p) p)) (nI p) := by
  have hin : ∀ n, pc_mf 0 (fun p => pc_dp L H c p) n ≤ 10 := by
    intro n
    rcases (pc_mf_spec 0 (fun p => pc_dp L H c p) n).2.2 with h | ⟨i, _, h⟩
    · omega
    · have : pc_dp L H c i ≤ c := pc_dp_le _ c
      omega
  intro d
  induction d with
  | zero =>
    intro p hd
    have e : p = 1024 := by omega
    subst e
    exact br_t (by decide) hp
  | succ d ih =>
    intro p hd
    exact br_f (pc_ge1024 (by omega)) ⟨c + 1, pc_yd16 hc hy (hin p) (by omega) (ih (p + 1) (by omega)) c 0 (by omega)⟩
theorem pc_ydeepest (hc : c ≤ 10) (hy : pc_YR c L H A aP aG aQ) {post : Int32 → Prop} (hp : post (nI (pc_mf 0 (fun p => pc_dp L H c p) 1024))) : wpY_deepest post (nI c, aP, aG, aQ) :=
  ⟨1025, pc_yd4 hc hy hp 1024 0 rfl⟩
end
end
section
/-! rules put in, taken out, exchanged -/
/-- rule j in the component's arrays and in the reference's is one rule -/
def pc_RR (aF aT aD aP aG aQ : Nat → Int32) (j : Nat) : Prop :=
  ∃ p g q, p < 80 ∧ g < 64 ∧ q < 256 ∧ g % 8 ≤ g / 8 ∧ q % 8 ≤ q / 8 % 8 ∧ aP j = nI p ∧ aG j = nI g ∧ aQ j = nI q ∧ aF (j * 3 + 0) = nI (pc_l0 p) ∧ aT (j * 3 + 0) = nI (pc_h0 p) ∧
    aF (j * 3 + 1) = nI (g % 8) ∧ aT (j * 3 + 1) = nI (g / 8) ∧ aF (j * 3 + 2) = nI (q % 8) ∧ aT (j * 3 + 2) = nI (q / 8 % 8) ∧ aD j = nI (q / 64)
theorem pc_RR_mv {aF aT aD aP aG aQ aF' aT' aD' aP' aG' aQ' : Nat → Int32} {i j : Nat} (h : pc_RR aF aT aD aP aG aQ i) (eF : ∀ f, f < 3 → aF' (j * 3 + f) = aF (i * 3 + f)) (eT : ∀ f, f < 3 → aT' (j * 3 + f) = aT (i * 3 + f))
    (eD : aD' j = aD i) (eP : aP' j = aP i) (eG : aG' j = aG i) (eQ : aQ' j = aQ i) : pc_RR aF' aT' aD' aP' aG' aQ' j := by
  obtain ⟨p, g, q, h1⟩ := h
  refine ⟨p, g, q, ?_⟩
  rw [eD, eP, eG, eQ, eF 0 (by decide), eF 1 (by decide), eF 2 (by decide), eT 0 (by decide), eT 1 (by decide), eT 2 (by decide)]
  exact h1
def pc_M3 (c : Nat) (σ : Nat → Nat) (a a' : Nat → Int32) : Prop := ∀ j, j < c → ∀ f, f < 3 → a' (j * 3 + f) = a (σ j * 3 + f)
def pc_M1 (c : Nat) (σ : Nat → Nat) (a a' : Nat → Int32) : Prop := ∀ j, j < c → a' j = a (σ j)
/-- rule r copied to s, the first k fields so far -/
def pc_CP (r s k : Nat) (a a' : Nat → Int32) : Prop := (∀ g, g < k → a' (s * 3 + g) = a (r * 3 + g)) ∧ ∀ j, j ≠ s → ∀ g, g < 3 → a' (j * 3 + g) = a (j * 3 + g)
theorem pc_CP_0 {r s : Nat} {a : Nat → Int32} : pc_CP r s 0 a a := ⟨fun g hg => by omega, fun _ _ _ _ => rfl⟩
theorem pc_CP_s {r s k : Nat} {a a' : Nat → Int32} (hne : r ≠ s) (hk : k < 3) (h : pc_CP r s k a a') : pc_CP r s (k + 1) a (upd a' (s * 3 + k) (a' (r * 3 + k))) := by
  refine ⟨fun g hg => ?_, fun j hj g hg => ?_⟩
  · by_cases e : g = k
    · rw [e, pk_us]; exact h.2 r hne k hk
    · rw [pk_un (by omega)]; exact h.1 g (by omega)
  · rw [pk_un (by omega)]; exact h.2 j hj g hg
theorem pc_M3_cp {c r s : Nat} {σ τ : Nat → Nat} {a a' a'' : Nat → Int32} (h : pc_M3 c σ a a') (hr : r < c) (hc : pc_CP r s 3 a' a'') (hτ : ∀ j, j < c → τ j = if j = s then σ r else σ j) : pc_M3 c τ a a'' := by
  intro j hj f hf
  rw [hτ j hj]
  by_cases e : j = s
  · rw [if_pos e, e, hc.1 f hf]; exact h r hr f hf
  · rw [if_neg e, hc.2 j e f hf]; exact h j hj f hf
theorem pc_M1_cp {c r s : Nat} {σ τ : Nat → Nat} {a a' : Nat → Int32} (h : pc_M1 c σ a a') (hr : r < c) (hτ : ∀ j, j < c → τ j = if j = s then σ r else σ j) : pc_M1 c τ a (upd a' s (a' r)) := by
  intro j hj
  rw [hτ j hj]
  by_cases e : j = s
  · rw [if_pos e, e, pk_us]; exact h r hr
  · rw [if_neg e, pk_un e]; exact h j hj
section
variable {fc fb fn fw : Int32} {aF aT aD aL aH aV aC aA aE aY : Nat → Int32}
theorem pc_xput {post : SX → Prop} {r f : Nat} {x y : Int32} (hr : r < 10) (hf : f < 3) (hp : post (fc, fb, fn, fw, upd aF (r * 3 + f) x, upd aT (r * 3 + f) y, aD, aL, aH, aV, aC, aA, aE, aY)) : wpX_put post (fc, fb, fn, fw, aF, aT, aD, aL, aH, aV, aC, aA, aE, aY) (nI r) (nI f) x y := by
  unfold wpX_put
  dsimp only
  rw [pc_ix, nI_clamp (by omega)]
  have hin : vp_in (nI (r * 3 + f)) 30 := vp_in_nI (by omega) (by decide)
  exact ⟨hin, nm_e ⟨hin, nm_e hp⟩⟩
theorem pc_xcopy2 {post : SX → Prop} {r s : Nat} (hr : r < 10) (hs : s < 10) (hne : r ≠ s)
    (hp : ∀ aF' aT' : Nat → Int32, pc_CP r s 3 aF aF' → pc_CP r s 3 aT aT' → post (fc, fb, fn, fw, aF', aT', upd aD s (aD r), aL, aH, aV, aC, aA, aE, aY)) :
    ∀ d f (aF' aT' : Nat → Int32), f + d = 3 → pc_CP r s f aF aF' → pc_CP r s f aT aT' → wX_copy_2 post (nI r) (nI s) (d + 1) (nI f) fc fb fn fw aF' aT' aD aL aH aV aC aA aE aY := by
  intro d
  induction d with
  | zero =>
    intro f aF' aT' hd hF hT
    have e : f = 3 := by omega
    subst e
    refine br_t (by decide) (And.intro (vp_in_nI hr (by decide)) (And.intro (vp_in_nI hs (by decide)) (nm_e ?_)))
    rw [nI_clamp (by omega), nI_clamp (by omega)]
    exact hp aF' aT' hF hT
  | succ d ih =>
    intro f aF' aT' hd hF hT
    have hf : f < 3 := by omega
    have hin : vp_in (nI r * 3 + nI f) 30 := by
      rw [pc_ix]
      exact vp_in_nI (by omega) (by decide)
    refine br_f (pc_ge3 hf) (And.intro hin (And.intro hin ?_))
    rw [pc_ix, nI_clamp (show r * 3 + f < 2 ^ 31 by omega)]
    exact pc_xput hs hf (nm_r (nI_1 f) (ih (f + 1) _ _ (by omega) (pc_CP_s hne hf hF) (pc_CP_s hne hf hT)))
theorem pc_xcopy {post : SX → Prop} {r s : Nat} (hr : r < 10) (hs : s < 10) (hne : r ≠ s)
    (hp : ∀ aF' aT' : Nat → Int32, pc_CP r s 3 aF aF' → pc_CP r s 3 aT aT' → post (fc, fb, fn, fw, aF', aT', upd aD s (aD r), aL, aH, aV, aC, aA, aE, aY)) : wpX_copy post (fc, fb, fn, fw, aF, aT, aD, aL, aH, aV, aC, aA, aE, aY) (nI r) (nI s) :=
  ⟨4, pc_xcopy2 hr hs hne hp 3 0 aF aT rfl pc_CP_0 pc_CP_0⟩
theorem pc_ycopy {post : SY → Prop} {gc : Int32} {aP aG aQ : Nat → Int32} {r s : Nat} (hr : r < 11) (hs : s < 11) (hp : post (gc, upd aP s (aP r), upd aG s (aG r), upd aQ s (aQ r))) : wpY_copy post (gc, aP, aG, aQ) (nI r) (nI s) := by
  unfold wpY_copy
  dsimp only
  rw [nI_clamp (show r < 2 ^ 31 by omega), nI_clamp (show s < 2 ^ 31 by omega)]
  have h1 : vp_in (nI r) 11 := vp_in_nI hr (by decide)
  have h2 : vp_in (nI s) 11 := vp_in_nI hs (by decide)
  exact ⟨h1, h2, nm_e ⟨h1, h2, nm_e ⟨h1, h2, nm_e hp⟩⟩⟩
/-! put in -/
def pc_si (r j : Nat) : Nat := if j ≤ r then j else j - 1
theorem pc_si_s {r j : Nat} : pc_si r j = if j = r + 1 then pc_si (r + 1) r else pc_si (r + 1) j := by
  unfold pc_si
  by_cases e : j = r + 1
  · rw [if_pos e, if_neg (by omega), if_pos (by omega)]; omega
  · rw [if_neg e]
    by_cases e2 : j ≤ r
    · rw [if_pos e2, if_pos (by omega)]
    · rw [if_neg e2, if_neg (by omega)]
theorem pc_si_0 {c j : Nat} (h : j < c + 1) : pc_si c j = j := if_pos (by omega)
theorem pc_insV : ∀ p, p < 80 → ((nI p &&& 15) &&& (-((1 : Int32) <<< ((4 - nI (p / 16)) &&& 31)))) = nI (pc_l0 p) ∧ (nI (pc_l0 p) + ((1 : Int32) <<< ((4 - nI (p / 16)) &&& 31))) - 1 = nI (pc_h0 p) := by decide +kernel
theorem pc_xins {post : Int32 → SX → Prop} {c a p g q : Nat} (hc : c < 10) (ha : a ≤ c) (hu : p < 80) (hq : q < 256)
    (hp : ∀ aF' aT' aD' : Nat → Int32, (∀ j, j < c + 1 → j ≠ a → (∀ f, f < 3 → aF' (j * 3 + f) = aF (pc_si a j * 3 + f)) ∧ (∀ f, f < 3 → aT' (j * 3 + f) = aT (pc_si a j * 3 + f)) ∧ aD' j = aD (pc_si a j)) →
      aF' (a * 3 + 0) = nI (pc_l0 p) → aT' (a * 3 + 0) = nI (pc_h0 p) → aF' (a * 3 + 1) = nI (g % 8) → aT' (a * 3 + 1) = nI (g / 8) → aF' (a * 3 + 2) = nI (q % 8) → aT' (a * 3 + 2) = nI (q / 8 % 8) → aD' a = nI (q / 64) →
      post (nI (c + 1)) (nI (c + 1), 0, fn, fw, aF', aT', aD', aL, aH, aV, aC, aA, aE, aY)) :
    ∀ d r (bF bT bD : Nat → Int32), r = a + d → r ≤ c → pc_M3 (c + 1) (pc_si r) aF bF → pc_M3 (c + 1) (pc_si r) aT bT → pc_M1 (c + 1) (pc_si r) aD bD →
      wX_insert_115 post (nI a) (nI p) (nI q) (nI (p / 16)) (nI (g % 8)) (nI (g / 8)) (nI (q % 8)) (nI (q / 8 % 8)) (d + 1) (nI r) (nI c) fb fn fw bF bT bD aL aH aV aC aA aE aY := by
  intro d
  induction d with
  | zero =>
    intro r bF bT bD hd hr hF hT hD
    have e : r = a := by omega
    subst e
    obtain ⟨v1, v2⟩ := pc_insV p hu
    refine br_t (nI_le (Nat.le_refl _) (by omega)) (nm_e (nm_r (e' := nI (pc_l0 p)) v1 ?_))
    rw [v2]
    refine pc_xput (f := 0) (by omega) (by decide) (pc_xput (f := 1) (by omega) (by decide) (pc_xput (f := 2) (by omega) (by decide) (And.intro (vp_in_nI (by omega) (by decide)) (nm_e (nm_r (nI_1 c) ?_)))))
    rw [nI_clamp (show r < 2 ^ 31 by omega), pc_shr6 (by omega)]
    refine hp _ _ _ (fun j hj hne => ⟨fun f hf => ?_, fun f hf => ?_, ?_⟩) ?_ ?_ ?_ ?_ ?_ ?_ ?_
    · rw [pk_un (by omega), pk_un (by omega), pk_un (by omega)]; exact hF j hj f hf
    · rw [pk_un (by omega), pk_un (by omega), pk_un (by omega)]; exact hT j hj f hf
    · rw [pk_un hne]; exact hD j hj
    · rw [pk_un (by omega), pk_un (by omega), pk_us]
    · rw [pk_un (by omega), pk_un (by omega), pk_us]
    · rw [pk_un (by omega), pk_us]
    · rw [pk_un (by omega), pk_us]
    · rw [pk_us]
    · rw [pk_us]
    · rw [pk_us]
  | succ d ih =>
    intro r bF bT bD hd hr hF hT hD
    obtain ⟨s, rfl⟩ : ∃ s, r = s + 1 := ⟨r - 1, by omega⟩
    refine br_f (nI_ge (by omega) (by omega)) ?_
    rw [nI_pred]
    refine pc_xcopy (by omega) (by omega) (by omega) (fun aF' aT' h1 h2 => nm_r (pk_m1 s) (ih s aF' aT' _ (by omega) (by omega) ?_ ?_ ?_))
    · exact pc_M3_cp hF (by omega) h1 (fun j _ => pc_si_s)
    · exact pc_M3_cp hT (by omega) h2 (fun j _ => pc_si_s)
    · exact pc_M1_cp hD (by omega) (fun j _ => pc_si_s)
theorem pc_yins {post : Int32 → SY → Prop} {aP aG aQ : Nat → Int32} {c a : Nat} {x y z : Int32} (hc : c < 10) (ha : a ≤ c)
    (hp : ∀ aP' aG' aQ' : Nat → Int32, (∀ j, j < c + 1 → j ≠ a → aP' j = aP (pc_si a j) ∧ aG' j = aG (pc_si a j) ∧ aQ' j = aQ (pc_si a j)) → aP' a = x → aG' a = y → aQ' a = z → post (nI (c + 1)) (nI (c + 1), aP', aG', aQ')) :
    ∀ d r (bP bG bQ : Nat → Int32), r = a + d → r ≤ c → pc_M1 (c + 1) (pc_si r) aP bP → pc_M1 (c + 1) (pc_si r) aG bG → pc_M1 (c + 1) (pc_si r) aQ bQ →
      wY_insert_94 post (nI a) x y z (d + 1) (nI r) (nI c) bP bG bQ := by
  intro d
  induction d with
  | zero =>
    intro r bP bG bQ hd hr hP hG hQ
    have e : r = a := by omega
    subst e
    have hin : vp_in (nI r) 11 := vp_in_nI (by omega) (by decide)
    refine br_t (nI_le (Nat.le_refl _) (by omega)) (And.intro hin (nm_e (And.intro hin (nm_e (And.intro hin (nm_e (nm_r (nI_1 c) ?_)))))))
    rw [nI_clamp (show r < 2 ^ 31 by omega)]
    refine hp _ _ _ (fun j hj hne => ?_) pk_us pk_us pk_us
    rw [pk_un hne, pk_un hne, pk_un hne]
    exact ⟨hP j hj, hG j hj, hQ j hj⟩
  | succ d ih =>
    intro r bP bG bQ hd hr hP hG hQ
    obtain ⟨s, rfl⟩ : ∃ s, r = s + 1 := ⟨r - 1, by omega⟩
    refine br_f (nI_ge (by omega) (by omega)) ?_
    rw [nI_pred]
    refine pc_ycopy (by omega) (by omega) (nm_r (pk_m1 s) (ih s _ _ _ (by omega) (by omega) ?_ ?_ ?_))
    · exact pc_M1_cp hP (by omega) (fun j _ => pc_si_s)
    · exact pc_M1_cp hG (by omega) (fun j _ => pc_si_s)
    · exact pc_M1_cp hQ (by omega) (fun j _ => pc_si_s)
/-! taken out: c rules are left -/
def pc_ri (r s j : Nat) : Nat := if r ≤ j ∧ j < s then j + 1 else j
theorem pc_ri_s {r s j : Nat} (h : r ≤ s) : pc_ri r (s + 1) j = if j = s then pc_ri r s (s + 1) else pc_ri r s j := by
  unfold pc_ri
  by_cases e : j = s
  · rw [if_pos e, if_pos (by omega), if_neg (by omega), e]
  · rw [if_neg e]
    by_cases e2 : r ≤ j ∧ j < s
    · rw [if_pos e2, if_pos (by omega)]
    · rw [if_neg e2, if_neg (by omega)]
theorem pc_ri_0 {r j : Nat} : pc_ri r r j = j := if_neg (by omega)
theorem pc_xrem {post : Int32 → SX → Prop} {c r : Nat} (hc : c < 10)
    (hp : ∀ aF' aT' aD' : Nat → Int32, pc_M3 (c + 1) (pc_ri r c) aF aF' → pc_M3 (c + 1) (pc_ri r c) aT aT' → pc_M1 (c + 1) (pc_ri r c) aD aD' → post (nI c) (nI c, 0, fn, fw, aF', aT', aD', aL, aH, aV, aC, aA, aE, aY)) :
    ∀ d s (bF bT bD : Nat → Int32), s + d = c → r ≤ s → pc_M3 (c + 1) (pc_ri r s) aF bF → pc_M3 (c + 1) (pc_ri r s) aT bT → pc_M1 (c + 1) (pc_ri r s) aD bD →
      wX_remove_23 post (d + 1) (nI s) (nI c) fb fn fw bF bT bD aL aH aV aC aA aE aY := by
  intro d
  induction d with
  | zero =>
    intro s bF bT bD hd hr hF hT hD
    have e : s = c := by omega
    subst e
    exact br_t (nI_le (Nat.le_refl _) (by omega)) (hp bF bT bD hF hT hD)
  | succ d ih =>
    intro s bF bT bD hd hr hF hT hD
    refine br_f (nI_ge (by omega) (by omega)) ?_
    rw [nI_1 s]
    refine pc_xcopy (by omega) (by omega) (by omega) (fun aF' aT' h1 h2 => nm_e (ih (s + 1) aF' aT' _ (by omega) (by omega) ?_ ?_ ?_))
    · exact pc_M3_cp hF (by omega) h1 (fun j _ => pc_ri_s hr)
    · exact pc_M3_cp hT (by omega) h2 (fun j _ => pc_ri_s hr)
    · exact pc_M1_cp hD (by omega) (fun j _ => pc_ri_s hr)
theorem pc_yrem {post : Int32 → SY → Prop} {aP aG aQ : Nat → Int32} {c r : Nat} (hc : c < 10)
    (hp : ∀ aP' aG' aQ' : Nat → Int32, pc_M1 (c + 1) (pc_ri r c) aP aP' → pc_M1 (c + 1) (pc_ri r c) aG aG' → pc_M1 (c + 1) (pc_ri r c) aQ aQ' → post (nI c) (nI c, aP', aG', aQ')) :
    ∀ d s (bP bG bQ : Nat → Int32), s + d = c → r ≤ s → pc_M1 (c + 1) (pc_ri r s) aP bP → pc_M1 (c + 1) (pc_ri r s) aG bG → pc_M1 (c + 1) (pc_ri r s) aQ bQ →
      wY_remove_23 post (d + 1) (nI s) (nI c) bP bG bQ := by
  intro d
  induction d with
  | zero =>
    intro s bP bG bQ hd hr hP hG hQ
    have e : s = c := by omega
    subst e
    exact br_t (nI_le (Nat.le_refl _) (by omega)) (hp bP bG bQ hP hG hQ)
  | succ d ih =>
    intro s bP bG bQ hd hr hP hG hQ
    refine br_f (nI_ge (by omega) (by omega)) ?_
    rw [nI_1 s]
    refine pc_ycopy (by omega) (by omega) (nm_e (ih (s + 1) _ _ _ (by omega) (by omega) ?_ ?_ ?_))
    · exact pc_M1_cp hP (by omega) (fun j _ => pc_ri_s hr)
    · exact pc_M1_cp hG (by omega) (fun j _ => pc_ri_s hr)
    · exact pc_M1_cp hQ (by omega) (fun j _ => pc_ri_s hr)
/-! exchanged -/
def pc_sw (r s j : Nat) : Nat := if j = s then r else if j = r then s else j
theorem pc_sw_upd {r s j : Nat} {a : Nat → Int32} : upd (upd a r (a s)) s (a r) j = a (pc_sw r s j) := by
  unfold pc_sw
  by_cases e : j = s
  · rw [e, pk_us, if_pos rfl]
  · rw [pk_un e, if_neg e]
    by_cases e2 : j = r
    · rw [e2, pk_us, if_pos rfl]
    · rw [pk_un e2, if_neg e2]
def pc_SW (r s k : Nat) (a a' : Nat → Int32) : Prop := ∀ j g, g < 3 → a' (j * 3 + g) = if g < k then a (pc_sw r s j * 3 + g) else a (j * 3 + g)
theorem pc_SW_s {r s k : Nat} {a a' : Nat → Int32} (hk : k < 3) (h : pc_SW r s k a a') : pc_SW r s (k + 1) a (upd (upd a' (r * 3 + k) (a' (s * 3 + k))) (s * 3 + k) (a' (r * 3 + k))) := by
  intro j g hg
  by_cases e : g = k
  · subst e
    rw [if_pos (by omega)]
    have h1 := h r g hg
    have h2 := h s g hg
    have h3 := h j g hg
    rw [if_neg (Nat.lt_irrefl _)] at h1 h2 h3
    unfold pc_sw
    by_cases e1 : j = s
    · rw [if_pos e1, e1, pk_us]; exact h1
    · rw [if_neg e1, pk_un (by omega)]
      by_cases e2 : j = r
      · rw [if_pos e2, e2, pk_us]; exact h2
      · rw [if_neg e2, pk_un (by omega)]; exact h3
  · rw [pk_un (by omega), pk_un (by omega), h j g hg]
    by_cases e1 : g < k
    · rw [if_pos e1, if_pos (by omega)]
    · rw [if_neg e1, if_neg (by omega)]
theorem pc_xswap {post : Int32 → SX → Prop} {r s : Nat} (hr : r < 10) (hs : s < 10)
    (hp : ∀ aF' aT' aD' : Nat → Int32, pc_SW r s 3 aF aF' → pc_SW r s 3 aT aT' → (∀ j, aD' j = aD (pc_sw r s j)) → post 0 (fc, 0, fn, fw, aF', aT', aD', aL, aH, aV, aC, aA, aE, aY)) :
    ∀ d f (bF bT : Nat → Int32), f + d = 3 → pc_SW r s f aF bF → pc_SW r s f aT bT → wX_swap_21 post (nI r) (nI s) (d + 1) (nI f) fc fb fn fw bF bT aD aL aH aV aC aA aE aY := by
  have hir : vp_in (nI r) 10 := vp_in_nI hr (by decide)
  have his : vp_in (nI s) 10 := vp_in_nI hs (by decide)
  intro d
  induction d with
  | zero =>
    intro f bF bT hd hF hT
    have e : f = 3 := by omega
    subst e
    refine br_t (by decide) (And.intro hir (nm_e (And.intro his (And.intro hir (nm_e (And.intro his (nm_e ?_)))))))
    rw [nI_clamp (show r < 2 ^ 31 by omega), nI_clamp (show s < 2 ^ 31 by omega)]
    exact hp bF bT _ hF hT (fun j => pc_sw_upd)
  | succ d ih =>
    intro f bF bT hd hF hT
    have hf : f < 3 := by omega
    have i1 : vp_in (nI r * 3 + nI f) 30 := by
      rw [pc_ix]
      exact vp_in_nI (by omega) (by decide)
    have i2 : vp_in (nI s * 3 + nI f) 30 := by
      rw [pc_ix]
      exact vp_in_nI (by omega) (by decide)
    refine br_f (pc_ge3 hf) (And.intro i1 (nm_e (And.intro i1 (nm_e (And.intro i2 (And.intro i2 ?_))))))
    rw [pc_ix, pc_ix, nI_clamp (show r * 3 + f < 2 ^ 31 by omega), nI_clamp (show s * 3 + f < 2 ^ 31 by omega)]
    exact pc_xput hr hf (pc_xput hs hf (nm_r (nI_1 f) (ih (f + 1) _ _ (by omega) (pc_SW_s hf hF) (pc_SW_s hf hT))))
theorem pc_sw_y {r s j : Nat} {a : Nat → Int32} (hr : r < 10) (hs : s < 10) (hj : j < 10) :
    upd (upd (upd a 10 (a r)) r (upd a 10 (a r) s)) s (upd (upd a 10 (a r)) r (upd a 10 (a r) s) 10) j = a (pc_sw r s j) := by
  rw [pk_un (show s ≠ 10 by omega), pk_un (show 10 ≠ r by omega), pk_us, ← pc_sw_upd (r := r) (s := s) (j := j) (a := a)]
  by_cases e : j = s
  · rw [e, pk_us, pk_us]
  · rw [pk_un e, pk_un e]
    by_cases e2 : j = r
    · rw [e2, pk_us, pk_us]
    · rw [pk_un e2, pk_un e2, pk_un (by omega)]
end
end
section
/-! the relation, opened and closed -/
def pc_cl (a : Nat → Int32) : Nat → Nat := fun i => (a i).toNatClampNeg
theorem pc_cl_of {a : Nat → Int32} {i n : Nat} (h : a i = nI n) (hn : n < 2 ^ 31) : pc_cl a i = n := by
  show (a i).toNatClampNeg = n
  rw [h, nI_clamp hn]
theorem pc_l0h0 : ∀ p, p < 80 → pc_l0 p ≤ pc_h0 p ∧ pc_h0 p < 16 := by decide +kernel
/-- the relation at the head of a turn: c rules, each the same on both sides; a tree that counts as built is one of these rules -/
def i_Rel (k : Nat) (u : SX) (v : SY) : Prop :=
  match u, v with
  | (fc, fb, fn, fw, aF, aT, aD, aL, aH, aV, aC, aA, aE, aY), (gc, aP, aG, aQ) => ∃ c, c ≤ 10 ∧ fc = nI c ∧ gc = nI c ∧ (∀ j, j < c → pc_RR aF aT aD aP aG aQ j) ∧ pc_TR c (pc_cl aF) (pc_cl aT) fb fn fw aL aH aV aC aA aE
section
variable {fc fb fn fw : Int32} {aF aT aD aL aH aV aC aA aE aY : Nat → Int32} {c : Nat} {aP aG aQ : Nat → Int32}
theorem pc_mk {k : Nat} (hc : c ≤ 10) (hR : ∀ j, j < c → pc_RR aF aT aD aP aG aQ j) (hT : pc_TR c (pc_cl aF) (pc_cl aT) fb fn fw aL aH aV aC aA aE) : i_Rel k (nI c, fb, fn, fw, aF, aT, aD, aL, aH, aV, aC, aA, aE, aY) (nI c, aP, aG, aQ) :=
  ⟨c, hc, rfl, rfl, hR, hT⟩
theorem pc_mk0 {k : Nat} (hc : c ≤ 10) (hR : ∀ j, j < c → pc_RR aF aT aD aP aG aQ j) : i_Rel k (nI c, 0, fn, fw, aF, aT, aD, aL, aH, aV, aC, aA, aE, aY) (nI c, aP, aG, aQ) :=
  ⟨c, hc, rfl, rfl, hR, fun h => absurd rfl h⟩
theorem pc_mkR {k r : Nat} (hc : c ≤ 10) (hr : r < c) (hR : ∀ j, j < c → pc_RR aF aT aD aP aG aQ j) : i_Rel k (nI c, fb, fn, nI r, aF, aT, aD, aL, aH, aV, aC, aA, aE, aY) (nI c, aP, aG, aQ) :=
  ⟨c, hc, rfl, rfl, hR, fun _ h => absurd h (nI_pos (by omega))⟩
theorem pc_RR_WF (hc : c ≤ 10) (hR : ∀ j, j < c → pc_RR aF aT aD aP aG aQ j) :
    pc_WF c (pc_cl aF) (pc_cl aT) aF aT ∧ pc_YR c (pc_cl aF) (pc_cl aT) (pc_cl aD) aP aG aQ ∧ ∀ j, j < c → aD j = nI (pc_cl aD j) ∧ pc_cl aD j < 4 := by
  refine ⟨⟨hc, fun r hr f hf => ?_⟩, fun j hj => ?_, fun j hj => ?_⟩
  · obtain ⟨p, g, q, h1, h2, h3, h4, h5, e1, e2, e3, e4, e5, e6, e7, e8, e9, _⟩ := hR r hr
    obtain ⟨b1, b2⟩ := pc_l0h0 p h1
    rcases (show f = 0 ∨ f = 1 ∨ f = 2 by omega) with rfl | rfl | rfl
    · rw [pc_cl_of e4 (by omega), pc_cl_of e5 (by omega)]
      exact ⟨e4, e5, b1, b2, fun h => absurd rfl h⟩
    · rw [pc_cl_of e6 (by omega), pc_cl_of e7 (by omega)]
      exact ⟨e6, e7, h4, by omega, fun _ => by omega⟩
    · rw [pc_cl_of e8 (by omega), pc_cl_of e9 (by omega)]
      exact ⟨e8, e9, h5, by omega, fun _ => by omega⟩
  · obtain ⟨p, g, q, h1, h2, h3, h4, h5, e1, e2, e3, e4, e5, e6, e7, e8, e9, e10⟩ := hR j hj
    obtain ⟨b1, b2⟩ := pc_l0h0 p h1
    exact ⟨p, g, q, h1, h2, h3, e1, e2, e3, pc_cl_of e4 (by omega), pc_cl_of e5 (by omega), pc_cl_of e6 (by omega), pc_cl_of e7 (by omega), pc_cl_of e8 (by omega), pc_cl_of e9 (by omega), pc_cl_of e10 (by omega)⟩
  · obtain ⟨p, g, q, h1, h2, h3, h4, h5, e1, e2, e3, e4, e5, e6, e7, e8, e9, e10⟩ := hR j hj
    rw [pc_cl_of e10 (by omega)]
    exact ⟨e10, by omega⟩
end
theorem pc_el {P : SX → SY → Prop} {k : Nat} {u : SX} {v : SY}
    (h : ∀ (c : Nat) (fb fn fw : Int32) (aF aT aD aL aH aV aC aA aE aY aP aG aQ : Nat → Int32), c ≤ 10 → (∀ j, j < c → pc_RR aF aT aD aP aG aQ j) → pc_TR c (pc_cl aF) (pc_cl aT) fb fn fw aL aH aV aC aA aE → P (nI c, fb, fn, fw, aF, aT, aD, aL, aH, aV, aC, aA, aE, aY) (nI c, aP, aG, aQ))
    (I : i_Rel k u v) : P u v := by
  obtain ⟨fc, fb, fn, fw, aF, aT, aD, aL, aH, aV, aC, aA, aE, aY⟩ := u
  obtain ⟨gc, aP, aG, aQ⟩ := v
  obtain ⟨c, hc, e1, e2, hR, hT⟩ := I
  subst e1
  subst e2
  exact h c fb fn fw aF aT aD aL aH aV aC aA aE aY aP aG aQ hc hR hT
/-! the two tests of the component -/
section
variable {fc fb fn fw : Int32} {aF aT aD aL aH aV aC aA aE aY : Nat → Int32} {c : Nat} {aP aG aQ : Nat → Int32}
theorem pc_xrule {post : Int32 → Prop} {r : Nat} (hc : c ≤ 10) (hr : r < c) (hp : post 0) : wpX_noRule post (nI c, fb, fn, fw, aF, aT, aD, aL, aH, aV, aC, aA, aE, aY) (nI r) :=
  br_f (nI_pos (by omega)) (br_t (nI_lt hr (by omega)) hp)
theorem pc_xruleB {post : Int32 → Prop} {x : Int32} (hx : x < 0 ∨ nI c ≤ x) (hp : post 1) : wpX_noRule post (nI c, fb, fn, fw, aF, aT, aD, aL, aH, aV, aC, aA, aE, aY) x := by
  unfold wpX_noRule
  dsimp only
  by_cases h0 : x < 0
  · exact br_t h0 hp
  · exact br_f h0 (br_f (fun z => Int32.not_lt.mpr (hx.resolve_left h0) z) hp)
theorem pc_ixc (x : Int32) (hc : c ≤ 10) : (x < 0 ∨ nI c ≤ x) ∨ ∃ r, r < c ∧ x = nI r := by
  rcases pk_ix x (n := c) (by omega) with h | h | h
  · exact Or.inl (Or.inl h)
  · exact Or.inl (Or.inr h)
  · exact Or.inr h
theorem pc_ixp (x : Int32) : (x < 0 ∨ ¬ x < 1024) ∨ ∃ p, p < 1024 ∧ x = nI p := by
  rcases pk_ix x (n := 1024) (by decide) with h | h | h
  · exact Or.inl (Or.inl h)
  · exact Or.inl (Or.inr (Int32.not_lt.mpr h))
  · exact Or.inr h
end
end
section
/-! the methods that ask -/
theorem i_up {k : Nat} {u : SX} {v : SY} (h : i_Rel k u v) : i_Rel (k + 5) u v := h
theorem i_vc0 : wpX_init (fun u => wpY_init (fun v => i_Rel 0 u v)) := ⟨0, by decide, rfl, rfl, fun j hj => by omega, fun h => absurd rfl h⟩
theorem i_vc_rules {k : Nat} {u : SX} {v : SY} (I : i_Rel k u v) (hk : k + 5 ≤ 2560) : wpX_rules (fun r => wpY_rules (fun r' => r' = r ∧ i_Rel (k + 5) u v) v) u := by
  refine pc_el (P := fun u v => wpX_rules (fun r => wpY_rules (fun r' => r' = r ∧ i_Rel (k + 5) u v) v) u) ?_ I
  intro c fb fn fw aF aT aD aL aH aV aC aA aE aY aP aG aQ hc hR hT
  exact ⟨rfl, pc_mk hc hR hT⟩
theorem i_vc_decide {k : Nat} {u : SX} {v : SY} (I : i_Rel k u v) (hk : k + 5 ≤ 2560) (v1 : Int32) : wpX_decide (fun r u' => wpY_decide (fun r' => r' = r ∧ i_Rel (k + 5) u' v) v v1) u v1 := by
  refine pc_el (P := fun u v => wpX_decide (fun r u' => wpY_decide (fun r' => r' = r ∧ i_Rel (k + 5) u' v) v v1) u v1) ?_ I
  intro c fb fn fw aF aT aD aL aH aV aC aA aE aY aP aG aQ hc hR hT
  obtain ⟨hw, hy, hA⟩ := pc_RR_WF hc hR
  rcases pc_ixp v1 with hx | ⟨p, hp, rfl⟩
  · refine pc_xdecideB hx ?_
    unfold wpY_decide
    dsimp only
    exact pc_ypkB hx (br_t rfl ⟨rfl, pc_mk hc hR hT⟩)
  · refine pc_xdecide hw hp hT (fun fb' fw' N' aL' aH' aV' aC' aA' aE' hTR => ?_)
    unfold wpY_decide
    dsimp only
    exact pc_ypk hp (br_f (by decide) (pc_yfirst0 hc hy hp ⟨rfl, pc_mk hc hR hTR⟩))
theorem i_vc_action {k : Nat} {u : SX} {v : SY} (I : i_Rel k u v) (hk : k + 5 ≤ 2560) (v1 : Int32) : wpX_action (fun r u' => wpY_action (fun r' => r' = r ∧ i_Rel (k + 5) u' v) v v1) u v1 := by
  refine pc_el (P := fun u v => wpX_action (fun r u' => wpY_action (fun r' => r' = r ∧ i_Rel (k + 5) u' v) v v1) u v1) ?_ I
  intro c fb fn fw aF aT aD aL aH aV aC aA aE aY aP aG aQ hc hR hT
  obtain ⟨hw, hy, hA⟩ := pc_RR_WF hc hR
  unfold wpX_action
  dsimp only
  rcases pc_ixp v1 with hx | ⟨p, hp, rfl⟩
  · refine pc_xdecideB hx ?_
    dsimp only
    refine br_f (by decide) ?_
    unfold wpY_action
    dsimp only
    exact pc_ypkB hx (br_t rfl ⟨rfl, pc_mk hc hR hT⟩)
  · refine pc_xdecide hw hp hT (fun fb' fw' N' aL' aH' aV' aC' aA' aE' hTR => ?_)
    dsimp only
    by_cases h : pc_de (pc_cl aF) (pc_cl aT) c p < c
    · rw [pc_en_t h]
      refine br_t (nI_pos' (by omega)) (And.intro (vp_in_nI (by omega) (by decide)) (pc_yaction hc hy hp ⟨?_, pc_mk hc hR hTR⟩))
      unfold pc_ac
      rw [if_pos h, nI_clamp (by omega)]
      exact (hA _ h).1.symm
    · rw [pc_en_f h]
      refine br_f (by decide) (pc_yaction hc hy hp ⟨?_, pc_mk hc hR hTR⟩)
      unfold pc_ac
      rw [if_neg h]
theorem i_vc_holding {k : Nat} {u : SX} {v : SY} (I : i_Rel k u v) (hk : k + 5 ≤ 2560) (v1 : Int32) : wpX_holding (fun r => wpY_holding (fun r' => r' = r ∧ i_Rel (k + 5) u v) v v1) u v1 := by
  refine pc_el (P := fun u v => wpX_holding (fun r => wpY_holding (fun r' => r' = r ∧ i_Rel (k + 5) u v) v v1) u v1) ?_ I
  intro c fb fn fw aF aT aD aL aH aV aC aA aE aY aP aG aQ hc hR hT
  obtain ⟨hw, hy, hA⟩ := pc_RR_WF hc hR
  rcases pc_ixp v1 with hx | ⟨p, hp, rfl⟩
  · refine pc_xholdB hx ?_
    unfold wpY_holding
    dsimp only
    exact pc_ypkB hx (br_t rfl ⟨rfl, pc_mk hc hR hT⟩)
  · exact pc_xhold hw hp (pc_yhold hc hy hp ⟨rfl, pc_mk hc hR hT⟩)
theorem i_vc_reach {k : Nat} {u : SX} {v : SY} (I : i_Rel k u v) (hk : k + 5 ≤ 2560) (v1 : Int32) : wpX_reach (fun r => wpY_reach (fun r' => r' = r ∧ i_Rel (k + 5) u v) v v1) u v1 := by
  refine pc_el (P := fun u v => wpX_reach (fun r => wpY_reach (fun r' => r' = r ∧ i_Rel (k + 5) u v) v v1) u v1) ?_ I
  intro c fb fn fw aF aT aD aL aH aV aC aA aE aY aP aG aQ hc hR hT
  obtain ⟨hw, hy, hA⟩ := pc_RR_WF hc hR
  rcases pc_ixc v1 hc with hx | ⟨r, hr, rfl⟩
  · unfold wpX_reach
    dsimp only
    refine pc_xruleB hx (br_f (by decide) ?_)
    unfold wpY_reach
    dsimp only
    exact pc_yruleB hx (br_t rfl ⟨rfl, pc_mk hc hR hT⟩)
  · exact pc_xreach hw hr (pc_yreach hc hy hr ⟨rfl, pc_mk hc hR hT⟩)
theorem pc_ta_r {L H : Nat → Nat} {c r : Nat} (hc : c ≤ 10) (hr : r < c) : pc_ta L H c r = pc_sm (fun p => pc_b1 (decide (pc_de L H c p = r))) 1024 := by
  unfold pc_ta
  apply pc_sm_congr
  intro p _
  congr 1
  rw [Bool.eq_iff_iff, decide_eq_true_iff, decide_eq_true_iff]
  by_cases h : pc_de L H c p < c
  · rw [pc_ka_t h]
  · rw [pc_ka_f h]
    omega
theorem pc_ta_10 {L H : Nat → Nat} {c : Nat} (hc : c ≤ 10) : pc_ta L H c 10 = pc_sm (fun p => pc_b1 (!decide (pc_de L H c p < c))) 1024 := by
  unfold pc_ta
  apply pc_sm_congr
  intro p _
  by_cases h : pc_de L H c p < c
  · rw [pc_ka_t h, decide_eq_true h, decide_eq_false (by omega)]; rfl
  · rw [pc_ka_f h, decide_eq_false h, decide_eq_true rfl]; rfl
theorem i_vc_decided {k : Nat} {u : SX} {v : SY} (I : i_Rel k u v) (hk : k + 5 ≤ 2560) (v1 : Int32) : wpX_decided (fun r u' => wpY_decided (fun r' => r' = r ∧ i_Rel (k + 5) u' v) v v1) u v1 := by
  refine pc_el (P := fun u v => wpX_decided (fun r u' => wpY_decided (fun r' => r' = r ∧ i_Rel (k + 5) u' v) v v1) u v1) ?_ I
  intro c fb fn fw aF aT aD aL aH aV aC aA aE aY aP aG aQ hc hR hT
  obtain ⟨hw, hy, hA⟩ := pc_RR_WF hc hR
  unfold wpX_decided
  dsimp only
  rcases pc_ixc v1 hc with hx | ⟨r, hr, rfl⟩
  · refine pc_xruleB hx (br_f (by decide) ?_)
    unfold wpY_decided
    dsimp only
    exact pc_yruleB hx (br_t rfl ⟨rfl, pc_mk hc hR hT⟩)
  · refine pc_xrule hc hr (br_t rfl (pc_xadd hw hT (fun fb' fw' N' aL' aH' aV' aC' aA' aE' aY' hTR hY => And.intro (vp_in_nI (by omega) (by decide)) (pc_ydecided hc hy hr ⟨?_, pc_mk hc hR hTR⟩))))
    have e : aY' (nI r).toNatClampNeg = nI (pc_sm (fun p => pc_b1 (decide (pc_de (pc_cl aF) (pc_cl aT) c p = r))) 1024) := by
      rw [nI_clamp (by omega), hY r (by omega), pc_ta_r hc hr]
    exact e.symm
theorem i_vc_undecided {k : Nat} {u : SX} {v : SY} (I : i_Rel k u v) (hk : k + 5 ≤ 2560) : wpX_undecided (fun r u' => wpY_undecided (fun r' => r' = r ∧ i_Rel (k + 5) u' v) v) u := by
  refine pc_el (P := fun u v => wpX_undecided (fun r u' => wpY_undecided (fun r' => r' = r ∧ i_Rel (k + 5) u' v) v) u) ?_ I
  intro c fb fn fw aF aT aD aL aH aV aC aA aE aY aP aG aQ hc hR hT
  obtain ⟨hw, hy, hA⟩ := pc_RR_WF hc hR
  unfold wpX_undecided
  dsimp only
  refine pc_xadd hw hT (fun fb' fw' N' aL' aH' aV' aC' aA' aE' aY' hTR hY => pc_yundecided hc hy ⟨?_, pc_mk hc hR hTR⟩)
  have e : aY' 10 = nI (pc_sm (fun p => pc_b1 (!decide (pc_de (pc_cl aF) (pc_cl aT) c p < c))) 1024) := by
    rw [hY 10 (by omega), pc_ta_10 hc]
  exact e.symm
/-- the packets by what is done with them -/
theorem pc_act_eq {L H A : Nat → Nat} {c : Nat} {x : Int32} (hc : c ≤ 10) (h0 : ¬ x < 0) :
    pc_sm (fun r => pc_b1 (decide (nI (A r) = x)) * pc_ta L H c r) c = pc_sm (fun p => pc_b1 (decide (pc_ac A c (pc_de L H c p) = x))) 1024 := by
  have s1 : pc_sm (fun r => pc_b1 (decide (nI (A r) = x)) * pc_ta L H c r) c = pc_sm (fun r => pc_sm (fun p => pc_b1 (decide (nI (A r) = x)) * pc_b1 (decide (pc_ka c (pc_de L H c p) = r))) 1024) c :=
    pc_sm_congr c (fun r _ => (pc_sm_mul _ _ _).symm)
  rw [s1, pc_sm_swap (fun r p => pc_b1 (decide (nI (A r) = x)) * pc_b1 (decide (pc_ka c (pc_de L H c p) = r))) 1024 c]
  apply pc_sm_congr
  intro p _
  by_cases h : pc_de L H c p < c
  · refine (pc_sm_one (k := pc_de L H c p) c h (fun r _ hne => ?_)).trans ?_
    · rw [pc_ka_t h, decide_eq_false (p := pc_de L H c p = r) (fun z => hne z.symm)]
      exact Nat.mul_zero _
    · rw [pc_ka_t h, decide_eq_true (p := pc_de L H c p = pc_de L H c p) rfl]
      unfold pc_ac
      rw [if_pos h]
      exact Nat.mul_one _
  · rw [pc_sm_0 c (fun r hr => by rw [pc_ka_f h, decide_eq_false (p := 10 = r) (by omega)]; exact Nat.mul_zero _)]
    unfold pc_ac
    rw [if_neg h, decide_eq_false (fun z => h0 (by rw [← z]; decide))]; rfl
theorem i_vc_acted {k : Nat} {u : SX} {v : SY} (I : i_Rel k u v) (hk : k + 5 ≤ 2560) (v1 : Int32) : wpX_acted (fun r u' => wpY_acted (fun r' => r' = r ∧ i_Rel (k + 5) u' v) v v1) u v1 := by
  refine pc_el (P := fun u v => wpX_acted (fun r u' => wpY_acted (fun r' => r' = r ∧ i_Rel (k + 5) u' v) v v1) u v1) ?_ I
  intro c fb fn fw aF aT aD aL aH aV aC aA aE aY aP aG aQ hc hR hT
  obtain ⟨hw, hy, hA⟩ := pc_RR_WF hc hR
  unfold wpX_acted
  dsimp only
  by_cases h0 : v1 < 0
  · exact br_t h0 (br_t h0 ⟨rfl, pc_mk hc hR hT⟩)
  · refine br_f h0 ?_
    by_cases h3 : v1 ≤ 3
    · refine br_t h3 (pc_xadd hw hT (fun fb' fw' N' aL' aH' aV' aC' aA' aE' aY' hTR hY => ?_))
      dsimp only
      refine ⟨c + 1, pc_sl (fun n x y => wX_acted_19 (fun r u' => wpY_acted (fun r' => r' = r ∧ i_Rel (k + 5) u' (nI c, aP, aG, aQ)) (nI c, aP, aG, aQ) v1) v1 (nI c) fb' (nI N') fw' aF aT aD aL' aH' aV' aC' aA' aE' aY' n x y) (fun r => pc_b1 (decide (nI (pc_cl aD r) = v1)) * pc_ta (pc_cl aF) (pc_cl aT) c r) c (fun n => br_t (nI_le (Nat.le_refl _) (by omega)) (pc_yacted hc hy h0 h3 ⟨?_, pc_mk hc hR hTR⟩)) (fun n r hr nxt => ?_) c 0 (by omega)⟩
      · rw [pc_act_eq hc h0]
      · refine br_f (nI_ge hr (by omega)) (And.intro (vp_in_nI (by omega) (by decide)) ?_)
        rw [nI_clamp (show r < 2 ^ 31 by omega), (hA r hr).1, hY r (by omega)]
        by_cases e : nI (pc_cl aD r) = v1
        · refine br_t e (And.intro (vp_in_nI (by omega) (by decide)) (nm_r (e' := nI (pc_sm (fun r => pc_b1 (decide (nI (pc_cl aD r) = v1)) * pc_ta (pc_cl aF) (pc_cl aT) c r) (r + 1))) ?_ (nm_r (nI_1 r) nxt)))
          rw [pc_sm_s, decide_eq_true e, pc_b1t, Nat.one_mul, nI_add]
        · rw [pc_sm_s, decide_eq_false e, pc_b1f, Nat.zero_mul, Nat.add_zero] at nxt
          exact br_f e (nm_r (nI_1 r) nxt)
    · exact br_f h3 (br_f h0 (br_f h3 ⟨rfl, pc_mk hc hR hT⟩))
theorem i_vc_idle {k : Nat} {u : SX} {v : SY} (I : i_Rel k u v) (hk : k + 5 ≤ 2560) : wpX_idle (fun r u' => wpY_idle (fun r' => r' = r ∧ i_Rel (k + 5) u' v) v) u := by
  refine pc_el (P := fun u v => wpX_idle (fun r u' => wpY_idle (fun r' => r' = r ∧ i_Rel (k + 5) u' v) v) u) ?_ I
  intro c fb fn fw aF aT aD aL aH aV aC aA aE aY aP aG aQ hc hR hT
  obtain ⟨hw, hy, hA⟩ := pc_RR_WF hc hR
  unfold wpX_idle
  dsimp only
  refine pc_xadd hw hT (fun fb' fw' N' aL' aH' aV' aC' aA' aE' aY' hTR hY => ?_)
  dsimp only
  refine ⟨c + 1, pc_sl (fun n x y => wX_idle_8 (fun r u' => wpY_idle (fun r' => r' = r ∧ i_Rel (k + 5) u' (nI c, aP, aG, aQ)) (nI c, aP, aG, aQ)) (nI c) fb' (nI N') fw' aF aT aD aL' aH' aV' aC' aA' aE' aY' n x y) (fun r => pc_b1 (decide (nI (pc_ta (pc_cl aF) (pc_cl aT) c r) = 0))) c (fun n => br_t (nI_le (Nat.le_refl _) (by omega)) (pc_yidle hc hy ⟨?_, pc_mk hc hR hTR⟩)) (fun n r hr nxt => ?_) c 0 (by omega)⟩
  · refine congrArg nI (pc_sm_congr c (fun r hr => ?_))
    rw [pc_ta_r hc hr]
  · refine br_f (nI_ge hr (by omega)) (And.intro (vp_in_nI (by omega) (by decide)) ?_)
    rw [nI_clamp (show r < 2 ^ 31 by omega), hY r (by omega)]
    by_cases e : nI (pc_ta (pc_cl aF) (pc_cl aT) c r) = 0
    · exact br_t e (nm_r (pc_sm_t (b := fun r => decide (nI (pc_ta (pc_cl aF) (pc_cl aT) c r) = 0)) (decide_eq_true e)) (nm_r (nI_1 r) nxt))
    · rw [pc_sm_f (b := fun r => decide (nI (pc_ta (pc_cl aF) (pc_cl aT) c r) = 0)) (decide_eq_false e)] at nxt
      exact br_f e (nm_r (nI_1 r) nxt)
theorem i_vc_weight {k : Nat} {u : SX} {v : SY} (I : i_Rel k u v) (hk : k + 5 ≤ 2560) (v1 : Int32) : wpX_weight (fun r u' => wpY_weight (fun r' => r' = r ∧ i_Rel (k + 5) u' v) v v1) u v1 := by
  refine pc_el (P := fun u v => wpX_weight (fun r u' => wpY_weight (fun r' => r' = r ∧ i_Rel (k + 5) u' v) v v1) u v1) ?_ I
  intro c fb fn fw aF aT aD aL aH aV aC aA aE aY aP aG aQ hc hR hT
  obtain ⟨hw, hy, hA⟩ := pc_RR_WF hc hR
  rcases pc_ixc v1 hc with hx | ⟨r, hr, rfl⟩
  · unfold wpX_weight
    dsimp only
    refine pc_xruleB hx (br_f (by decide) ?_)
    unfold wpY_weight
    dsimp only
    exact pc_yruleB hx (br_t rfl ⟨rfl, pc_mk hc hR hT⟩)
  · exact pc_xweight hw hA hr (fun N' aL' aH' aV' aC' aA' aE' => pc_yweight hc hy (fun j hj => (hA j hj).2) hr ⟨rfl, pc_mkR hc hr hR⟩)
theorem i_vc_next {k : Nat} {u : SX} {v : SY} (I : i_Rel k u v) (hk : k + 5 ≤ 2560) (v1 : Int32) (v2 : Int32) : wpX_next (fun r u' => wpY_next (fun r' => r' = r ∧ i_Rel (k + 5) u' v) v v1 v2) u v1 v2 := by
  refine pc_el (P := fun u v => wpX_next (fun r u' => wpY_next (fun r' => r' = r ∧ i_Rel (k + 5) u' v) v v1 v2) u v1 v2) ?_ I
  intro c fb fn fw aF aT aD aL aH aV aC aA aE aY aP aG aQ hc hR hT
  obtain ⟨hw, hy, hA⟩ := pc_RR_WF hc hR
  rcases pc_ixc v1 hc with hx | ⟨r, hr, rfl⟩
  · unfold wpX_next
    dsimp only
    exact pc_xruleB hx (br_f (by decide) (pc_ynextB hc hx ⟨rfl, pc_mk hc hR hT⟩))
  · exact pc_xnext hw hr hT (fun y fb' fw' N' aL' aH' aV' aC' aA' aE' hLs hTR => pc_ynext hc hy hr (fun y' hLs' => ⟨pc_Ls_uniq hLs' hLs, pc_mk hc hR hTR⟩))
theorem i_vc_deepest {k : Nat} {u : SX} {v : SY} (I : i_Rel k u v) (hk : k + 5 ≤ 2560) : wpX_deepest (fun r => wpY_deepest (fun r' => r' = r ∧ i_Rel (k + 5) u v) v) u := by
  refine pc_el (P := fun u v => wpX_deepest (fun r => wpY_deepest (fun r' => r' = r ∧ i_Rel (k + 5) u v) v) u) ?_ I
  intro c fb fn fw aF aT aD aL aH aV aC aA aE aY aP aG aQ hc hR hT
  obtain ⟨hw, hy, hA⟩ := pc_RR_WF hc hR
  exact pc_xdeepest hw (pc_ydeepest hc hy ⟨rfl, pc_mk hc hR hT⟩)
end
section
/-! the methods that change the rules -/
theorem i_vc_remove {k : Nat} {u : SX} {v : SY} (I : i_Rel k u v) (hk : k + 5 ≤ 2560) (v1 : Int32) : wpX_remove (fun r u' => wpY_remove (fun r' v' => r' = r ∧ i_Rel (k + 5) u' v') v v1) u v1 := by
  refine pc_el (P := fun u v => wpX_remove (fun r u' => wpY_remove (fun r' v' => r' = r ∧ i_Rel (k + 5) u' v') v v1) u v1) ?_ I
  intro c fb fn fw aF aT aD aL aH aV aC aA aE aY aP aG aQ hc hR hT
  unfold wpX_remove
  dsimp only
  rcases pc_ixc v1 hc with hx | ⟨r, hr, rfl⟩
  · refine pc_xruleB hx (br_f (by decide) ?_)
    unfold wpY_remove
    dsimp only
    exact pc_yruleB hx (br_t rfl ⟨rfl, pc_mk hc hR hT⟩)
  · obtain ⟨d, rfl⟩ : ∃ d, c = d + 1 := ⟨c - 1, by omega⟩
    refine pc_xrule hc hr (br_t rfl (nm_r (nI_pred d) ⟨d - r + 1, pc_xrem (r := r) (c := d) (by omega) (fun aF' aT' aD' mF mT mD => ?_) (d - r) r aF aT aD (by omega) (Nat.le_refl _) (fun j _ f _ => by rw [pc_ri_0]) (fun j _ f _ => by rw [pc_ri_0]) (fun j _ => by rw [pc_ri_0])⟩))
    unfold wpY_remove
    dsimp only
    refine pc_yrule hc hr (br_f (by decide) (nm_r (nI_pred d) ⟨d - r + 1, pc_yrem (r := r) (c := d) (by omega) (fun aP' aG' aQ' mP mG mQ => ⟨rfl, pc_mk0 (by omega) (fun j hj => ?_)⟩) (d - r) r aP aG aQ (by omega) (Nat.le_refl _) (fun j _ => by rw [pc_ri_0]) (fun j _ => by rw [pc_ri_0]) (fun j _ => by rw [pc_ri_0])⟩))
    have hlt : pc_ri r d j < d + 1 := by
      unfold pc_ri
      split <;> omega
    exact pc_RR_mv (hR (pc_ri r d j) hlt) (mF j (by omega)) (mT j (by omega)) (mD j (by omega)) (mP j (by omega)) (mG j (by omega)) (mQ j (by omega))
theorem i_vc_swap {k : Nat} {u : SX} {v : SY} (I : i_Rel k u v) (hk : k + 5 ≤ 2560) (v1 : Int32) (v2 : Int32) : wpX_swap (fun r u' => wpY_swap (fun r' v' => r' = r ∧ i_Rel (k + 5) u' v') v v1 v2) u v1 v2 := by
  refine pc_el (P := fun u v => wpX_swap (fun r u' => wpY_swap (fun r' v' => r' = r ∧ i_Rel (k + 5) u' v') v v1 v2) u v1 v2) ?_ I
  intro c fb fn fw aF aT aD aL aH aV aC aA aE aY aP aG aQ hc hR hT
  unfold wpX_swap
  dsimp only
  rcases pc_ixc v1 hc with hx | ⟨r, hr, rfl⟩
  · refine pc_xruleB hx (br_f (by decide) ?_)
    unfold wpY_swap
    dsimp only
    exact pc_yruleB hx (br_t rfl ⟨rfl, pc_mk hc hR hT⟩)
  · refine pc_xrule hc hr (br_t rfl ?_)
    rcases pc_ixc v2 hc with hx | ⟨s, hs, rfl⟩
    · refine pc_xruleB hx (br_f (by decide) ?_)
      unfold wpY_swap
      dsimp only
      exact pc_yrule hc hr (br_f (by decide) (pc_yruleB hx (br_t rfl ⟨rfl, pc_mk hc hR hT⟩)))
    · refine pc_xrule hc hs (br_t rfl ⟨4, pc_xswap (r := r) (s := s) (by omega) (by omega) (fun aF' aT' aD' sF sT sD => ?_) 3 0 aF aT rfl (fun j g _ => by rw [if_neg (Nat.not_lt_zero _)]) (fun j g _ => by rw [if_neg (Nat.not_lt_zero _)])⟩)
      unfold wpY_swap
      dsimp only
      refine pc_yrule hc hr (br_f (by decide) (pc_yrule hc hs (br_f (by decide) (pc_ycopy (s := 10) (by omega) (by decide) (pc_ycopy (by omega) (by omega) (pc_ycopy (r := 10) (by decide) (by omega) ⟨rfl, pc_mk0 hc (fun j hj => ?_)⟩))))))
      have hlt : pc_sw r s j < c := by
        unfold pc_sw
        split
        · exact hr
        · split
          · exact hs
          · exact hj
      refine pc_RR_mv (hR (pc_sw r s j) hlt) (fun f hf => ?_) (fun f hf => ?_) (sD j) (pc_sw_y (by omega) (by omega) (by omega)) (pc_sw_y (by omega) (by omega) (by omega)) (pc_sw_y (by omega) (by omega) (by omega))
      · rw [sF j f hf, if_pos hf]
      · rw [sT j f hf, if_pos hf]
theorem i_vc_insert {k : Nat} {u : SX} {v : SY} (I : i_Rel k u v) (hk : k + 5 ≤ 2560) (v1 : Int32) (v2 : Int32) (v3 : Int32) (v4 : Int32) : wpX_insert (fun r u' => wpY_insert (fun r' v' => r' = r ∧ i_Rel (k + 5) u' v') v v1 v2 v3 v4) u v1 v2 v3 v4 := by
  refine pc_el (P := fun u v => wpX_insert (fun r u' => wpY_insert (fun r' v' => r' = r ∧ i_Rel (k + 5) u' v') v v1 v2 v3 v4) u v1 v2 v3 v4) ?_ I
  intro c fb fn fw aF aT aD aL aH aV aC aA aE aY aP aG aQ hc hR hT
  have rel : i_Rel (k + 5) (nI c, fb, fn, fw, aF, aT, aD, aL, aH, aV, aC, aA, aE, aY) (nI c, aP, aG, aQ) := pc_mk hc hR hT
  unfold wpX_insert
  dsimp only
  refine nm_e (nm_e (nm_e (nm_e (nm_e ?_))))
  by_cases h1 : v1 < 0
  · exact br_t h1 (br_t h1 ⟨rfl, rel⟩)
  refine br_f h1 ?_
  by_cases h2 : nI c < v1
  · exact br_t h2 (br_f h1 (br_t h2 ⟨rfl, rel⟩))
  refine br_f h2 ?_
  by_cases h3 : v2 < 0
  · exact br_t h3 (br_f h1 (br_f h2 (br_t h3 ⟨rfl, rel⟩)))
  refine br_f h3 ?_
  by_cases h4 : v2 ≤ 79
  rotate_left
  · exact br_f h4 (br_f h1 (br_f h2 (br_f h3 (br_t (Int32.not_le.mp h4) ⟨rfl, rel⟩))))
  have h4' : ¬ 79 < v2 := Int32.not_lt.mpr h4
  refine br_t h4 ?_
  by_cases h5 : v3 < 0
  · exact br_t h5 (br_f h1 (br_f h2 (br_f h3 (br_f h4' (br_t h5 ⟨rfl, rel⟩)))))
  refine br_f h5 ?_
  by_cases h6 : 63 < v3
  · exact br_t h6 (br_f h1 (br_f h2 (br_f h3 (br_f h4' (br_f h5 (br_t h6 ⟨rfl, rel⟩))))))
  refine br_f h6 ?_
  obtain ⟨a, ha, rfl⟩ := nI_of h1
  have hac : a ≤ c := by
    rw [nI_ltI (by omega) ha] at h2
    omega
  obtain ⟨p, hp, rfl⟩ := nI_of2 (M := 79) (n := 79) (by decide) h3 h4
  obtain ⟨g, hg, rfl⟩ := nI_of2 (M := 63) (n := 63) (by decide) h5 (Int32.not_lt.mp h6)
  rw [pc_and7 (p := g) (by omega), pc_shr3 (p := g) (by omega), pc_shr4 (p := p) (by omega)]
  refine pk_le (g % 8) (g / 8) (fun h7 => ?_) (fun h7 => ?_)
  rotate_left
  · exact br_f h1 (br_f h2 (br_f h3 (br_f h4' (br_f h5 (br_f h6 (And.intro (by decide) (And.intro (by decide) (pk_le (g % 8) (g / 8) (fun h => absurd h (by omega)) (fun h => ⟨rfl, rel⟩) (pc_m8 (by omega)) (pc_d8 (by omega))))))))))
  by_cases h8 : v4 < 0
  · exact br_t h8 (br_f h1 (br_f h2 (br_f h3 (br_f h4' (br_f h5 (br_f h6 (And.intro (by decide) (And.intro (by decide) (pk_le (g % 8) (g / 8) (fun h => br_t h8 ⟨rfl, rel⟩) (fun h => absurd h (by omega)) (pc_m8 (by omega)) (pc_d8 (by omega)))))))))))
  refine br_f h8 ?_
  by_cases h9 : 255 < v4
  · exact br_t h9 (br_f h1 (br_f h2 (br_f h3 (br_f h4' (br_f h5 (br_f h6 (And.intro (by decide) (And.intro (by decide) (pk_le (g % 8) (g / 8) (fun h => br_f h8 (br_t h9 ⟨rfl, rel⟩)) (fun h => absurd h (by omega)) (pc_m8 (by omega)) (pc_d8 (by omega)))))))))))
  refine br_f h9 ?_
  obtain ⟨q, hq, rfl⟩ := nI_of2 (M := 255) (n := 255) (by decide) h8 (Int32.not_lt.mp h9)
  rw [pc_and7 (p := q) (by omega), pc_shr3 (p := q) (by omega), pc_and7 (p := q / 8) (by omega)]
  have yw : ∀ {post : Int32 → SY → Prop}, (q % 8 ≤ q / 8 % 8 → ((nI c = 10 → post (-2) (nI c, aP, aG, aQ)) ∧ (¬ nI c = 10 → ∃ n94 : Nat, wY_insert_94 post (nI a) (nI p) (nI g) (nI q) n94 (nI c) (nI c) aP aG aQ))) → (q / 8 % 8 < q % 8 → post (-1) (nI c, aP, aG, aQ)) →
      wpY_insert post (nI c, aP, aG, aQ) (nI a) (nI p) (nI g) (nI q) := by
    intro post f1 f2
    exact br_f h1 (br_f h2 (br_f h3 (br_f h4' (br_f h5 (br_f h6 (And.intro (by decide) (And.intro (by decide) (pk_le (g % 8) (g / 8) (fun h => br_f h8 (br_f h9 (And.intro (by decide) (And.intro (by decide) (And.intro (by decide) (pk_le (q % 8) (q / 8 % 8) f1 f2 (pc_m8 (by omega)) (pc_d8m8 (by omega)))))))) (fun h => absurd h (by omega)) (pc_m8 (by omega)) (pc_d8 (by omega))))))))))
  refine pk_le (q % 8) (q / 8 % 8) (fun h10 => ?_) (fun h10 => yw (fun h => absurd h (by omega)) (fun _ => ⟨rfl, rel⟩))
  by_cases h11 : nI c = 10
  · exact br_t h11 (yw (fun _ => br_t h11 ⟨rfl, rel⟩) (fun h => absurd h (by omega)))
  have hc9 : c < 10 := by
    have : c ≠ 10 := fun z => h11 (by rw [z]; rfl)
    omega
  refine br_f h11 ⟨c - a + 1, pc_xins hc9 hac (by omega) (by omega) (fun aF' aT' aD' hmv x1 x2 x3 x4 x5 x6 x7 => ?_) (c - a) c aF aT aD (by omega) (Nat.le_refl _) (fun j hj f _ => by rw [pc_si_0 hj]) (fun j hj f _ => by rw [pc_si_0 hj]) (fun j hj => by rw [pc_si_0 hj])⟩
  refine yw (fun _ => br_f h11 ⟨c - a + 1, pc_yins hc9 hac (fun aP' aG' aQ' hmy y1 y2 y3 => ⟨rfl, pc_mk0 (by omega) (fun j hj => ?_)⟩) (c - a) c aP aG aQ (by omega) (Nat.le_refl _) (fun j hj => by rw [pc_si_0 hj]) (fun j hj => by rw [pc_si_0 hj]) (fun j hj => by rw [pc_si_0 hj])⟩) (fun h => absurd h (by omega))
  by_cases e : j = a
  · subst e
    exact ⟨p, g, q, by omega, by omega, by omega, h7, h10, y1, y2, y3, x1, x2, x3, x4, x5, x6, x7⟩
  · have hlt : pc_si a j < c := by
      unfold pc_si
      split <;> omega
    obtain ⟨z1, z2, z3⟩ := hmv j hj e
    obtain ⟨w1, w2, w3⟩ := hmy j hj e
    exact pc_RR_mv (hR (pc_si a j) hlt) z1 z2 z3 w1 w2 w3
end
