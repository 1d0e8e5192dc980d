section
theorem pk_us {f : Nat → Int32} {k : Nat} {x : Int32} : upd f k x k = x := if_pos rfl
theorem pk_un {f : Nat → Int32} {k j : Nat} {x : Int32} (h : j ≠ k) : upd f k x j = f j := if_neg h
theorem pk_uLs {f : Nat → Int64} {k : Nat} {x : Int64} : vp_updL f k x k = x := if_pos rfl
theorem pk_uLn {f : Nat → Int64} {k j : Nat} {x : Int64} (h : j ≠ k) : vp_updL f k x j = f j := if_neg h
theorem pk_sub {a b : Nat} (h : b ≤ a) : nI a - nI b = nI (a - b) := by
  obtain ⟨c, rfl⟩ : ∃ c, a = c + b := ⟨a - b, by omega⟩
  rw [← nI_add, Int32.add_sub_cancel, Nat.add_sub_cancel]
theorem pk_m1 (n : Nat) : nI (n + 1) + (-1) = nI n := by
  rw [← nI_1, Int32.add_assoc, show (1 : Int32) + (-1) = 0 from rfl, Int32.add_zero]
theorem pk_mul (a b : Nat) : nI a * nI b = nI (a * b) := (Int32.ofNat_mul a b).symm
theorem pk_div {a d : Nat} (ha : a < 2 ^ 31) (h0 : 0 < d) (hd : d < 2 ^ 31) : nI a / nI d = nI (a / d) := by
  apply Int32.toInt_inj.mp
  rw [lg_idiv_nonneg (by rw [nI_toInt ha]; omega) (by rw [nI_toInt hd]; omega), nI_toInt ha, nI_toInt hd, nI_toInt (Nat.lt_of_le_of_lt (Nat.div_le_self a d) ha)]
  first | rfl | exact (Int.natCast_ediv _ _).symm
theorem pk_rem {a d : Nat} (ha : a < 2 ^ 31) (h0 : 0 < d) (hd : d < 2 ^ 31) : nI a - nI a / nI d * nI d = nI (a % d) := by
  rw [pk_div ha h0 hd, pk_mul, pk_sub (Nat.div_mul_le_self a d)]
  exact congrArg nI (by have := Nat.div_add_mod' a d; omega)
theorem pk_sub_toInt {a b : Nat} (ha : a < 2 ^ 30) (hb : b < 2 ^ 30) : (nI a - nI b).toInt = (a : Int) - b := by
  rw [Int32.toInt_sub, nI_toInt (by omega), nI_toInt (by omega)]
  exact Int.bmod_eq_of_le (by omega) (by omega)
theorem pk_sneg {a b : Nat} (hb : b < 2 ^ 30) (h : a < b) : nI a - nI b < 0 := by
  rw [Int32.lt_iff_toInt_lt, pk_sub_toInt (by omega) hb, show (0 : Int32).toInt = 0 from by decide]
  omega
theorem pk_ix (x : Int32) {n : Nat} (hn : n < 2 ^ 31) : x < 0 ∨ nI n ≤ x ∨ ∃ j : Nat, j < n ∧ x = nI j := by
  by_cases h : x < 0
  · exact Or.inl h
  · obtain ⟨j, hj, rfl⟩ := nI_of h
    by_cases h2 : j < n
    · exact Or.inr (Or.inr ⟨j, h2, rfl⟩)
    · exact Or.inr (Or.inl (nI_le (by omega) hj))
theorem pk_le {x y : Int32} {A B : Prop} (a b : Nat) (f : a ≤ b → A) (g : b < a → B) (hx : x = nI a := by rfl) (hy : y = nI b := by rfl) (ha : a < 2 ^ 31 := by omega) (hb : b < 2 ^ 31 := by omega) : (x ≤ y → A) ∧ (¬ x ≤ y → B) := by
  subst hx hy
  rw [nI_leI ha hb]
  exact ⟨f, fun z => g (by omega)⟩
theorem pk_lt {x y : Int32} {A B : Prop} (a b : Nat) (f : a < b → A) (g : b ≤ a → B) (hx : x = nI a := by rfl) (hy : y = nI b := by rfl) (ha : a < 2 ^ 31 := by omega) (hb : b < 2 ^ 31 := by omega) : (x < y → A) ∧ (¬ x < y → B) := by
  subst hx hy
  rw [nI_ltI ha hb]
  exact ⟨f, fun z => g (by omega)⟩
theorem pk_eq {x y : Int32} {A B : Prop} (a b : Nat) (f : a = b → A) (g : a ≠ b → B) (hx : x = nI a := by rfl) (hy : y = nI b := by rfl) (ha : a < 2 ^ 31 := by omega) (hb : b < 2 ^ 31 := by omega) : (x = y → A) ∧ (¬ x = y → B) := by
  subst hx hy
  rw [nI_eq ha hb]
  exact ⟨f, g⟩
theorem pk_in {x : Int32} (n N : Nat) (h : n < N) (hx : x = nI n := by rfl) (hN : N < 2 ^ 31 := by omega) : vp_in x N := by
  subst hx
  exact vp_in_nI h hN
theorem pk_cl {x : Int32} (n : Nat) (hx : x = nI n := by rfl) (h : n < 2 ^ 31 := by omega) : x.toNatClampNeg = n := by
  subst hx
  exact nI_clamp h
theorem pk_tn {n : Nat} (h : n < 2 ^ 32) : (nI n).toBitVec.toNat = n := Nat.mod_eq_of_lt h
theorem pk_and (x : Int32) {m : Int32} (k : Nat) (hm : m.toBitVec.toNat = 2 ^ k - 1) : x &&& m = nI (x.toBitVec.toNat % 2 ^ k) := by
  apply Int32.toBitVec_inj.mp
  apply BitVec.eq_of_toNat_eq
  rw [Int32.toBitVec_and, BitVec.toNat_and, hm, Nat.and_two_pow_sub_one_eq_mod]
  show _ = (BitVec.ofNat 32 _).toNat
  rw [BitVec.toNat_ofNat]
  exact (Nat.mod_eq_of_lt (Nat.lt_of_le_of_lt (Nat.mod_le _ _) x.toBitVec.isLt)).symm
theorem pk_andN {n : Nat} (h : n < 2 ^ 32) {m : Int32} (k : Nat) (hm : m.toBitVec.toNat = 2 ^ k - 1) : nI n &&& m = nI (n % 2 ^ k) := by
  rw [pk_and _ k hm, pk_tn h]
theorem pk_andE (x : Int32) {m : Int32} (k : Nat) (hm : m.toBitVec.toNat = 2 ^ k - 1) : ∃ j : Nat, j < 2 ^ k ∧ x &&& m = nI j := ⟨_, Nat.mod_lt _ (Nat.two_pow_pos k), pk_and x k hm⟩
theorem pk_andIn (x : Int32) {m : Int32} (k : Nat) (hm : m.toBitVec.toNat = 2 ^ k - 1) (hk : k ≤ 30) : vp_in (x &&& m) (2 ^ k) := by
  obtain ⟨j, hj, e⟩ := pk_andE x k hm
  rw [e]
  exact vp_in_nI hj (Nat.lt_of_le_of_lt (Nat.pow_le_pow_right (by decide) hk) (by decide))
theorem pk_shl (a s : Int32) (k : Nat) (hs : (s.toBitVec.smod 32).toNat = k) : (a <<< s).toBitVec.toNat = a.toBitVec.toNat * 2 ^ k % 2 ^ 32 := by
  show (a.toBitVec <<< (s.toBitVec.smod 32).toNat).toNat = _
  rw [hs, BitVec.toNat_shiftLeft, Nat.shiftLeft_eq]
theorem pk_shlN {n : Nat} (s : Int32) (k : Nat) (hs : (s.toBitVec.smod 32).toNat = k) (h : n * 2 ^ k < 2 ^ 32) : nI n <<< s = nI (n * 2 ^ k) := by
  apply Int32.toBitVec_inj.mp
  apply BitVec.eq_of_toNat_eq
  have hn : n < 2 ^ 32 := Nat.lt_of_le_of_lt (Nat.le_mul_of_pos_right n (Nat.two_pow_pos k)) h
  rw [pk_shl _ _ k hs, pk_tn hn, pk_tn h, Nat.mod_eq_of_lt h]
theorem pk_shr (a s : Int32) (k : Nat) (hs : (s.toBitVec.smod 32).toNat = k) : (a >>> s).toInt = a.toInt >>> k := by
  show (a.toBitVec.sshiftRight (s.toBitVec.smod 32).toNat).toInt = _
  rw [hs, BitVec.toInt_sshiftRight]
  rfl
theorem pk_shrN {n : Nat} (h : n < 2 ^ 31) (s : Int32) (k : Nat) (hs : (s.toBitVec.smod 32).toNat = k) : nI n >>> s = nI (n / 2 ^ k) := by
  apply Int32.toInt_inj.mp
  have h2 : n / 2 ^ k ≤ n := Nat.div_le_self _ _
  rw [pk_shr _ _ k hs, nI_toInt h, nI_toInt (by omega), Int.shiftRight_eq_div_pow]
  rfl
theorem pk_loop {σ : Type} (W : Nat → Nat → σ → Prop) (I : Nat → σ → Prop) (e i0 : Nat) (s : σ) (hi : i0 ≤ e) (h0 : I i0 s) (hx : ∀ n s, I e s → W (n + 1) e s)
    (hs : ∀ n i s, i < e → I i s → (∀ s', I (i + 1) s' → W n (i + 1) s') → W (n + 1) i s) : ∃ n, W n i0 s :=
  ⟨e + 1, loop_i W I e hx hs (e + 1) i0 s hi (by omega) h0⟩
theorem pk_loopD {σ : Type} (W : Nat → Nat → σ → Prop) (I : Nat → σ → Prop) (hx : ∀ n s, I 0 s → W (n + 1) 0 s)
    (hs : ∀ n i s, I (i + 1) s → (∀ s', I i s' → W n i s') → W (n + 1) (i + 1) s) : ∀ (e : Nat) (s : σ), I e s → W (e + 1) e s := by
  intro e
  induction e with
  | zero => exact fun s h => hx 0 s h
  | succ e ih => exact fun s h => hs (e + 1) e s h (fun s' h' => ih s' h')
theorem s_l : ∀ n, n < 32 → ((nI n &&& 31).toBitVec.smod 32).toNat = n := by decide +kernel
theorem nx_and (a b : Nat) : nI a &&& nI b = nI (a &&& b) := by
  apply Int32.toBitVec_inj.1
  show BitVec.ofNat 32 a &&& BitVec.ofNat 32 b = BitVec.ofNat 32 (a &&& b)
  apply BitVec.eq_of_getLsbD_eq
  intro i hi
  simp [hi]
theorem nx_xor (a b : Nat) : nI a ^^^ nI b = nI (a ^^^ b) := by
  apply Int32.toBitVec_inj.1
  show BitVec.ofNat 32 a ^^^ BitVec.ofNat 32 b = BitVec.ofNat 32 (a ^^^ b)
  apply BitVec.eq_of_getLsbD_eq
  intro i hi
  simp [hi]
end
section
/-! Ints of any sign as Int32: iz_n; finite sums: sn (Nat), si (Int); lists over a range -/
def iz_n (z : Int) : Int32 := Int32.ofInt z
theorem iz_nat (k : Nat) : iz_n (k : Int) = nI k := Int32.ofInt_eq_ofNat
theorem iz_add (a b : Int) : iz_n a + iz_n b = iz_n (a + b) := (Int32.ofInt_add a b).symm
theorem iz_sub (a b : Int) : iz_n a - iz_n b = iz_n (a - b) := (Int32.ofInt_sub a b).symm
theorem iz_mul (a b : Int) : iz_n a * iz_n b = iz_n (a * b) := (Int32.ofInt_mul a b).symm
theorem iz_toInt {z : Int} (h1 : -2147483648 ≤ z) (h2 : z < 2147483648) : (iz_n z).toInt = z :=
  Int32.toInt_ofInt_of_le (by omega) (by omega)
theorem iz_0 : iz_n 0 = 0 := rfl
theorem iz_1 : iz_n 1 = 1 := rfl
theorem iz_m1 : iz_n (-1) = -1 := rfl
theorem iz_le {a b : Int} (a1 : -2147483648 ≤ a) (a2 : a < 2147483648) (b1 : -2147483648 ≤ b) (b2 : b < 2147483648) : iz_n a ≤ iz_n b ↔ a ≤ b := by
  rw [Int32.le_iff_toInt_le, iz_toInt a1 a2, iz_toInt b1 b2]
theorem iz_lt {a b : Int} (a1 : -2147483648 ≤ a) (a2 : a < 2147483648) (b1 : -2147483648 ≤ b) (b2 : b < 2147483648) : iz_n a < iz_n b ↔ a < b := by
  rw [Int32.lt_iff_toInt_lt, iz_toInt a1 a2, iz_toInt b1 b2]
theorem iz_eq {a b : Int} (a1 : -2147483648 ≤ a) (a2 : a < 2147483648) (b1 : -2147483648 ≤ b) (b2 : b < 2147483648) : iz_n a = iz_n b ↔ a = b := by
  rw [← Int32.toInt_inj, iz_toInt a1 a2, iz_toInt b1 b2]
theorem iz_ble {x y : Int32} {A B : Prop} (a b : Int) (f : a ≤ b → A) (g : b < a → B) (hx : x = iz_n a := by rfl) (hy : y = iz_n b := by rfl) (a1 : -2147483648 ≤ a := by omega) (a2 : a < 2147483648 := by omega) (b1 : -2147483648 ≤ b := by omega) (b2 : b < 2147483648 := by omega) : (x ≤ y → A) ∧ (¬ x ≤ y → B) := by
  subst hx hy
  rw [iz_le a1 a2 b1 b2]
  exact ⟨f, fun z => g (by omega)⟩
theorem iz_blt {x y : Int32} {A B : Prop} (a b : Int) (f : a < b → A) (g : b ≤ a → B) (hx : x = iz_n a := by rfl) (hy : y = iz_n b := by rfl) (a1 : -2147483648 ≤ a := by omega) (a2 : a < 2147483648 := by omega) (b1 : -2147483648 ≤ b := by omega) (b2 : b < 2147483648 := by omega) : (x < y → A) ∧ (¬ x < y → B) := by
  subst hx hy
  rw [iz_lt a1 a2 b1 b2]
  exact ⟨f, fun z => g (by omega)⟩
theorem iz_beq {x y : Int32} {A B : Prop} (a b : Int) (f : a = b → A) (g : a ≠ b → B) (hx : x = iz_n a := by rfl) (hy : y = iz_n b := by rfl) (a1 : -2147483648 ≤ a := by omega) (a2 : a < 2147483648 := by omega) (b1 : -2147483648 ≤ b := by omega) (b2 : b < 2147483648 := by omega) : (x = y → A) ∧ (¬ x = y → B) := by
  subst hx hy
  rw [iz_eq a1 a2 b1 b2]
  exact ⟨f, g⟩
/-- an own name for a branch by any equivalent proposition -/
theorem bq_if {c d A B : Prop} (e : c ↔ d) (f : d → A) (g : ¬ d → B) : (c → A) ∧ (¬ c → B) := ⟨fun h => f (e.mp h), fun h => g (fun z => h (e.mpr z))⟩
theorem bq_pl (r c : Nat) : 5 * nI r + nI c = nI (5 * r + c) := by
  rw [show (5 : Int32) = nI 5 from rfl, pk_mul, nI_add]
theorem bq_32 (r o : Nat) : 32 * nI r + nI o = nI (32 * r + o) := by
  rw [show (32 : Int32) = nI 32 from rfl, pk_mul, nI_add]
theorem bq_cl {k : Nat} (h : k < 1000) : (nI k).toNatClampNeg = k := nI_clamp (by omega)
theorem bq_in {k N : Nat} (h : k < N) (hN : N < 1000) : vp_in (nI k) N := vp_in_nI h (by omega)

/-! sums of naturals -/
def sn (f : Nat → Nat) : Nat → Nat
  | 0 => 0
  | k + 1 => sn f k + f k
theorem sn_ext {f g : Nat → Nat} : ∀ k : Nat, (∀ i, i < k → f i = g i) → sn f k = sn g k
  | 0, _ => rfl
  | k + 1, h => by
    show sn f k + f k = sn g k + g k
    rw [sn_ext k (fun i hi => h i (by omega)), h k (by omega)]
theorem sn_zero {f : Nat → Nat} : ∀ k : Nat, (∀ i, i < k → f i = 0) → sn f k = 0
  | 0, _ => rfl
  | k + 1, h => by
    show sn f k + f k = 0
    rw [sn_zero k (fun i hi => h i (by omega)), h k (by omega)]
theorem sn_add (f g : Nat → Nat) : ∀ k : Nat, sn (fun i => f i + g i) k = sn f k + sn g k
  | 0 => rfl
  | k + 1 => by
    show sn (fun i => f i + g i) k + (f k + g k) = (sn f k + f k) + (sn g k + g k)
    rw [sn_add f g k]; omega
theorem sn_mul (a : Nat) (f : Nat → Nat) : ∀ k : Nat, sn (fun i => a * f i) k = a * sn f k
  | 0 => rfl
  | k + 1 => by
    show sn (fun i => a * f i) k + a * f k = a * (sn f k + f k)
    rw [sn_mul a f k, Nat.mul_add]
theorem sn_mulr (a : Nat) (f : Nat → Nat) (k : Nat) : sn (fun i => f i * a) k = sn f k * a := by
  rw [Nat.mul_comm, ← sn_mul]
  exact sn_ext k (fun i _ => Nat.mul_comm _ _)
theorem sn_comm (f : Nat → Nat → Nat) (a : Nat) : ∀ b : Nat, sn (fun i => sn (fun j => f i j) b) a = sn (fun j => sn (fun i => f i j) a) b
  | 0 => sn_zero a (fun _ _ => rfl)
  | b + 1 => by
    show sn (fun i => sn (fun j => f i j) b + f i b) a = sn (fun j => sn (fun i => f i j) a) b + sn (fun i => f i b) a
    rw [sn_add, sn_comm f a b]
theorem sn_one (f : Nat → Nat) (a : Nat) : ∀ k : Nat, sn (fun i => if a = i then f i else 0) k = if a < k then f a else 0
  | 0 => rfl
  | k + 1 => by
    show sn (fun i => if a = i then f i else 0) k + (if a = k then f k else 0) = _
    rw [sn_one f a k]
    by_cases h : a = k
    · subst h; simp
    · by_cases h2 : a < k
      · rw [if_pos h2, if_neg h, if_pos (by omega)]; omega
      · rw [if_neg h2, if_neg h, if_neg (by omega)]
theorem sn_mono (f : Nat → Nat) {a : Nat} : ∀ b : Nat, a ≤ b → sn f a ≤ sn f b
  | 0, h => by
    have : a = 0 := by omega
    subst this; exact Nat.le_refl _
  | b + 1, h => by
    by_cases e : a = b + 1
    · subst e; exact Nat.le_refl _
    · have := sn_mono f b (by omega : a ≤ b)
      show sn f a ≤ sn f b + f b
      omega
theorem sn_bd (f : Nat → Nat) (B : Nat) : ∀ k : Nat, (∀ i, i < k → f i ≤ B) → sn f k ≤ k * B
  | 0, _ => by
    show (0 : Nat) ≤ 0 * B
    omega
  | k + 1, h => by
    have h1 := sn_bd f B k (fun i hi => h i (by omega))
    have h2 := h k (by omega)
    have h3 : (k + 1) * B = k * B + B := Nat.succ_mul k B
    show sn f k + f k ≤ (k + 1) * B
    omega

/-! sums of ints -/
def si (f : Nat → Int) : Nat → Int
  | 0 => 0
  | k + 1 => si f k + f k
theorem si_ext {f g : Nat → Int} : ∀ k : Nat, (∀ i, i < k → f i = g i) → si f k = si g k
  | 0, _ => rfl
  | k + 1, h => by
    show si f k + f k = si g k + g k
    rw [si_ext k (fun i hi => h i (by omega)), h k (by omega)]
theorem si_zero {f : Nat → Int} : ∀ k : Nat, (∀ i, i < k → f i = 0) → si f k = 0
  | 0, _ => rfl
  | k + 1, h => by
    show si f k + f k = 0
    rw [si_zero k (fun i hi => h i (by omega)), h k (by omega)]; rfl
theorem si_add (f g : Nat → Int) : ∀ k : Nat, si (fun i => f i + g i) k = si f k + si g k
  | 0 => rfl
  | k + 1 => by
    show si (fun i => f i + g i) k + (f k + g k) = (si f k + f k) + (si g k + g k)
    rw [si_add f g k]; omega
theorem si_mul (a : Int) (f : Nat → Int) : ∀ k : Nat, si (fun i => a * f i) k = a * si f k
  | 0 => (Int.mul_zero a).symm
  | k + 1 => by
    show si (fun i => a * f i) k + a * f k = a * (si f k + f k)
    rw [si_mul a f k, Int.mul_add]
theorem si_comm (f : Nat → Nat → Int) (a : Nat) : ∀ b : Nat, si (fun i => si (fun j => f i j) b) a = si (fun j => si (fun i => f i j) a) b
  | 0 => si_zero a (fun _ _ => rfl)
  | b + 1 => by
    show si (fun i => si (fun j => f i j) b + f i b) a = si (fun j => si (fun i => f i j) a) b + si (fun i => f i b) a
    rw [si_add, si_comm f a b]
theorem si_split (f : Nat → Int) (a : Nat) : ∀ b : Nat, si f (a + b) = si f a + si (fun i => f (a + i)) b
  | 0 => (Int.add_zero _).symm
  | b + 1 => by
    show si f (a + b) + f (a + b) = si f a + (si (fun i => f (a + i)) b + f (a + b))
    rw [si_split f a b]; omega
/-- only the first places count -/
theorem si_cut (f : Nat → Int) {c : Nat} : ∀ k : Nat, c ≤ k → si (fun i => if i < c then f i else 0) k = si f c := by
  intro k hk
  obtain ⟨d, rfl⟩ : ∃ d, k = c + d := ⟨k - c, by omega⟩
  rw [si_split, si_zero (f := fun i => if c + i < c then f (c + i) else 0) d (fun i _ => if_neg (by omega)), si_ext (g := f) c (fun i hi => if_pos hi)]
  omega
theorem si_prod (f : Nat → Int) (b : Nat) : ∀ a : Nat, si f (b * a) = si (fun r => si (fun c => f (b * r + c)) b) a
  | 0 => rfl
  | a + 1 => by
    rw [Nat.mul_succ, si_split, si_prod f b a]
    rfl

/-! lists over a range -/
theorem lr_len {β : Type} (f : Nat → List β) : ∀ k : Nat, ((List.range k).flatMap f).length = sn (fun i => (f i).length) k
  | 0 => rfl
  | k + 1 => by
    rw [List.range_succ, List.flatMap_append, List.length_append, lr_len f k]
    simp [sn]
theorem lr_cnt {β : Type} (p : β → Bool) (f : Nat → List β) : ∀ k : Nat, ((List.range k).flatMap f).countP p = sn (fun i => (f i).countP p) k
  | 0 => rfl
  | k + 1 => by
    rw [List.range_succ, List.flatMap_append, List.countP_append, lr_cnt p f k]
    simp [sn]
theorem lr_get {β : Type} (f : Nat → List β) : ∀ (R i k : Nat), i < R → sn (fun i => (f i).length) i ≤ k → k < sn (fun i => (f i).length) (i + 1) →
    ((List.range R).flatMap f)[k]? = (f i)[k - sn (fun i => (f i).length) i]?
  | 0, i, k, h, _, _ => by omega
  | R + 1, i, k, h, h1, h2 => by
    rw [List.range_succ, List.flatMap_append]
    by_cases e : i = R
    · subst e
      rw [List.getElem?_append_right (by rw [lr_len]; exact h1), lr_len]
      simp
    · have h3 := sn_mono (fun i => (f i).length) (a := i + 1) R (by omega)
      rw [List.getElem?_append_left (by rw [lr_len]; omega)]
      exact lr_get f R i k (by omega) h1 h2
theorem lr_if {α β : Type} (c : Bool) (l : List α) (f : α → List β) : (if c then l.flatMap f else []) = l.flatMap (fun w => if c then f w else []) := by
  cases c
  · simp
  · simp
theorem lr_fil {α β : Type} (p q : α → Bool) (f : α → List β) (h : ∀ a, q a = true → p a = true) : ∀ l : List α, l.flatMap (fun w => if q w then f w else []) = (l.filter p).flatMap (fun w => if q w then f w else [])
  | [] => rfl
  | a :: l => by
    rw [List.flatMap_cons, lr_fil p q f h l, List.filter_cons]
    by_cases hp : p a = true
    · rw [if_pos hp, List.flatMap_cons]
    · have hq : ¬ q a = true := fun z => hp (h a z)
      rw [if_neg hp, if_neg hq]; rfl
theorem lr_ext {α β : Type} {f g : α → List β} : ∀ l : List α, (∀ a, a ∈ l → f a = g a) → l.flatMap f = l.flatMap g
  | [], _ => rfl
  | a :: l, h => by
    rw [List.flatMap_cons, List.flatMap_cons, h a (List.mem_cons_self ..), lr_ext l (fun b hb => h b (List.mem_cons_of_mem _ hb))]
end
section
/-! the good rows of each size, in their order, by the columns with 1 and with -1 -/
def tb_pl (n : Nat) : List Nat := match n with
  | 1 => [1]
  | 2 => [2, 1]
  | 3 => [4, 2, 5, 1]
  | 4 => [8, 4, 10, 2, 9, 5, 9, 1]
  | 5 => [16, 8, 20, 4, 18, 10, 18, 2, 17, 9, 21, 5, 17, 9, 17, 1]
  | _ => []
def tb_mi (n : Nat) : List Nat := match n with
  | 1 => [0]
  | 2 => [0, 0]
  | 3 => [0, 0, 2, 0]
  | 4 => [0, 0, 4, 0, 2, 2, 4, 0]
  | 5 => [0, 0, 8, 0, 4, 4, 8, 0, 2, 2, 10, 2, 4, 4, 8, 0]
  | _ => []
def tb_R (n : Nat) : Nat := 2 ^ (n - 1)
def tb_P (n i : Nat) : Nat := (tb_pl n).getD i 0
def tb_M (n i : Nat) : Nat := (tb_mi n).getD i 0
def tP (n : Nat) : Nat → Int32 := fun i => nI (tb_P n i)
def tM (n : Nat) : Nat → Int32 := fun i => nI (tb_M n i)
/-- a bit as an int -/
def bi (o c : Nat) : Int := if o.testBit c = true then 1 else 0
/-- entry c of row i -/
def en (n i c : Nat) : Int := bi (tb_P n i) c - bi (tb_M n i) c
def ok (n i o : Nat) : Bool := (tb_P n i &&& o) == 0 && (tb_M n i &&& (o ^^^ 31)) == 0
def af (n i o : Nat) : Nat := (o ||| tb_P n i) &&& (tb_M n i ^^^ 31)
/-- how many entries -1 -/
def nn (n i : Nat) : Nat := sn (fun c => if (tb_M n i).testBit c = true then 1 else 0) 5

theorem tb_n {P : Nat → Prop} (p1 : P 1) (p2 : P 2) (p3 : P 3) (p4 : P 4) (p5 : P 5) {n : Nat} (h1 : 1 ≤ n) (h5 : n ≤ 5) : P n := by
  have h : n = 1 ∨ n = 2 ∨ n = 3 ∨ n = 4 ∨ n = 5 := by omega
  rcases h with rfl | rfl | rfl | rfl | rfl
  · exact p1
  · exact p2
  · exact p3
  · exact p4
  · exact p5
theorem tb_R16 {n : Nat} (h5 : n ≤ 5) : tb_R n ≤ 16 := by
  have h := Nat.pow_le_pow_right (n := 2) (by decide) (show n - 1 ≤ 4 by omega)
  exact h
theorem tb_R0 (n : Nat) : 0 < tb_R n := Nat.two_pow_pos _
theorem bi_01 (o c : Nat) : bi o c = 0 ∨ bi o c = 1 := by
  unfold bi
  by_cases h : o.testBit c = true
  · rw [if_pos h]; exact Or.inr rfl
  · rw [if_neg h]; exact Or.inl rfl
theorem tb_lt : ∀ n, n < 6 → ∀ i, i < 16 → tb_P n i < 32 ∧ tb_M n i < 32 := by decide +kernel
theorem tb_dis : ∀ n, n < 6 → ∀ i, i < 16 → tb_P n i &&& tb_M n i = 0 := by decide +kernel
theorem tb_or : ∀ a, a < 32 → ∀ o, o < 32 → nI a ||| nI o = nI (a ||| o) ∧ a ||| o < 32 := by decide +kernel
theorem tb_not : ∀ a, a < 32 → ∀ o, o < 32 → nI a &&& (nI o ^^^ (-1)) = nI (a &&& (o ^^^ 31)) ∧ a &&& (o ^^^ 31) < 32 := by decide +kernel
theorem tb_bit : ∀ a, a < 32 → ∀ c, c < 5 → (nI a >>> (nI c &&& 31)) &&& 1 = iz_n (bi a c) := by decide +kernel
theorem tb_and32 (a o : Nat) (h : a < 32) : a &&& o < 32 := Nat.lt_of_le_of_lt Nat.and_le_left h
theorem af_lt {n i o : Nat} (hn : n ≤ 5) (hi : i < 16) (ho : o < 32) : af n i o < 32 :=
  (tb_not _ (tb_or o ho _ (tb_lt n (by omega) i hi).1).2 _ (tb_lt n (by omega) i hi).2).2
theorem en_r (n i c : Nat) : -1 ≤ en n i c ∧ en n i c ≤ 1 := by
  have h1 := bi_01 (tb_P n i) c
  have h2 := bi_01 (tb_M n i) c
  unfold en
  omega
/-- a row's sums from the left -/
theorem en_sum0 : ∀ n, n < 6 → ∀ i, i < tb_R n → ∀ c, c < n + 1 → 0 ≤ si (en n i) c ∧ si (en n i) c ≤ 1 := by decide +kernel
theorem en_sum1 : ∀ n, n < 6 → 0 < n → ∀ i, i < tb_R n → si (en n i) n = 1 := by decide +kernel
theorem en_out : ∀ n, n < 6 → ∀ i, i < 16 → tb_P n i < 2 ^ n ∧ tb_M n i < 2 ^ n := by decide +kernel
/-- a row follows columns if and only if their sums stay 0 or 1; then they are the next ones -/
theorem ok_iff : ∀ n, n < 6 → ∀ i, i < tb_R n → ∀ o, o < 2 ^ n → (ok n i o = true ↔ ∀ c, c < n → 0 ≤ bi o c + en n i c ∧ bi o c + en n i c ≤ 1) := by decide +kernel
theorem ok_af : ∀ n, n < 6 → ∀ i, i < tb_R n → ∀ o, o < 2 ^ n → ok n i o = true → af n i o < 2 ^ n ∧ ∀ c, c < n → bi (af n i o) c = bi o c + en n i c := by decide +kernel
theorem bi_full : ∀ n, n < 6 → ∀ o, o < 2 ^ n → (o = 2 ^ n - 1 ↔ ∀ c, c < n → bi o c = 1) := by decide +kernel
theorem nn_en : ∀ n, n < 6 → ∀ i, i < tb_R n → sn (fun c => if en n i c = -1 then 1 else 0) n = nn n i := by decide +kernel
theorem en_inj : ∀ n, n < 6 → ∀ i, i < tb_R n → ∀ j, j < tb_R n → tb_P n i = tb_P n j → tb_M n i = tb_M n j → i = j := by decide +kernel
/-- all rows of entries -/
def ws : Nat → List (List Int)
  | 0 => [[]]
  | k + 1 => [-1, 0, 1].flatMap (fun v => (ws k).map (List.cons v))
/-- along a row from column t on, a being the sum before it -/
def gd (n : Nat) : Nat → Int → List Int → Bool
  | _, _, [] => true
  | t, a, v :: w => decide ((if t = n - 1 then 1 else 0) ≤ a + v) && (decide (a + v ≤ 1) && gd n (t + 1) (a + v) w)
def rl (n i : Nat) : List Int := (List.range' 0 n).map (en n i)
theorem ws_good {n : Nat} (h1 : 1 ≤ n) (h5 : n ≤ 5) : (ws n).filter (gd n 0 0) = (List.range (tb_R n)).map (rl n) :=
  tb_n (P := fun n => (ws n).filter (gd n 0 0) = (List.range (tb_R n)).map (rl n)) (by decide +kernel) (by decide +kernel) (by decide +kernel) (by decide +kernel) (by decide +kernel) h1 h5
end
section
/-! the squares row by row (sq) and place by place (yL), and that they are the same list -/
def al_ok (al : Nat → Int32) (r c : Nat) (v : Int) : Bool := decide ((((al (5 * r + c)) >>> ((iz_n v + 1) &&& 31)) &&& 1) = 1)
def al_row (al : Nat → Int32) (n r i : Nat) : Bool := (List.range n).all (fun c => al_ok al r c (en n i c))
theorem al_row_iff {al : Nat → Int32} {n r i : Nat} : al_row al n r i = true ↔ ∀ c, c < n → al_ok al r c (en n i c) = true := by
  unfold al_row
  rw [List.all_eq_true]
  exact ⟨fun h c hc => h c (List.mem_range.mpr hc), fun h c hc => h c (List.mem_range.mp hc)⟩
def sq (n : Nat) (A : Nat → Nat → Bool) : Nat → Nat → List (List Nat)
  | 0, o => if o = 2 ^ n - 1 then [[]] else []
  | m + 1, o => (List.range (tb_R n)).flatMap (fun i => if ok n i o && A (n - 1 - m) i then (sq n A m (af n i o)).map (List.cons i) else [])
def sg (n : Nat) (A : Nat → Nat → Bool) (m o i : Nat) : List (List Nat) := if ok n i o && A (n - 1 - m) i then (sq n A m (af n i o)).map (List.cons i) else []
def wy (n : Nat) (A : Nat → Nat → Bool) (m o i : Nat) : Nat := if ok n i o && A (n - 1 - m) i then (sq n A m (af n i o)).length else 0
theorem sq_s (n : Nat) (A : Nat → Nat → Bool) (m o : Nat) : sq n A (m + 1) o = (List.range (tb_R n)).flatMap (sg n A m o) := rfl
theorem sg_len (n : Nat) (A : Nat → Nat → Bool) (m o i : Nat) : (sg n A m o i).length = wy n A m o i := by
  unfold sg wy
  by_cases h : (ok n i o && A (n - 1 - m) i) = true
  · rw [if_pos h, if_pos h, List.length_map]
  · rw [if_neg h, if_neg h]; rfl
theorem sq_len (n : Nat) (A : Nat → Nat → Bool) (m o : Nat) : (sq n A (m + 1) o).length = sn (wy n A m o) (tb_R n) := by
  rw [sq_s, lr_len]
  exact sn_ext _ (fun i _ => sg_len n A m o i)
theorem sg_mem {n : Nat} {A : Nat → Nat → Bool} {m o i : Nat} {s : List Nat} (h : s ∈ sg n A m o i) : ok n i o = true ∧ A (n - 1 - m) i = true ∧ ∃ t, t ∈ sq n A m (af n i o) ∧ s = i :: t := by
  unfold sg at h
  by_cases c : (ok n i o && A (n - 1 - m) i) = true
  · rw [if_pos c] at h
    obtain ⟨t, ht, e⟩ := List.mem_map.mp h
    rw [Bool.and_eq_true] at c
    exact ⟨c.1, c.2, t, ht, e.symm⟩
  · rw [if_neg c] at h
    cases h
theorem sq_mem {n : Nat} {A : Nat → Nat → Bool} : ∀ {m o : Nat} {s : List Nat}, s ∈ sq n A m o → s.length = m ∧ ∀ r, r < m → s.getD r 0 < tb_R n
  | 0, o, s, h => by
    unfold sq at h
    by_cases c : o = 2 ^ n - 1
    · rw [if_pos c] at h
      have e : s = [] := List.mem_singleton.mp h
      subst e
      exact ⟨rfl, fun r hr => absurd hr (by omega)⟩
    · rw [if_neg c] at h
      cases h
  | m + 1, o, s, h => by
    rw [sq_s] at h
    obtain ⟨i, hi, hs⟩ := List.mem_flatMap.mp h
    obtain ⟨_, _, t, ht, rfl⟩ := sg_mem hs
    obtain ⟨h1, h2⟩ := sq_mem ht
    refine ⟨by rw [List.length_cons, h1], fun r hr => ?_⟩
    cases r with
    | zero => exact List.mem_range.mp hi
    | succ r => exact h2 r (by omega)
theorem sq_bd {n : Nat} {A : Nat → Nat → Bool} (h5 : n ≤ 5) : ∀ m o : Nat, (sq n A m o).length ≤ 16 ^ m
  | 0, o => by
    unfold sq
    by_cases c : o = 2 ^ n - 1
    · rw [if_pos c]; exact Nat.le_refl _
    · rw [if_neg c]; exact Nat.zero_le _
  | m + 1, o => by
    rw [sq_len]
    refine Nat.le_trans (sn_bd _ (16 ^ m) _ (fun i _ => ?_)) ?_
    · unfold wy
      by_cases h : (ok n i o && A (n - 1 - m) i) = true
      · rw [if_pos h]; exact sq_bd h5 m _
      · rw [if_neg h]; exact Nat.zero_le _
    · rw [Nat.pow_succ, Nat.mul_comm (16 ^ m)]
      exact Nat.mul_le_mul_right _ (tb_R16 h5)
theorem sq_bd5 {n : Nat} {A : Nat → Nat → Bool} (h5 : n ≤ 5) {m : Nat} (hm : m ≤ 5) (o : Nat) : (sq n A m o).length ≤ 1048576 :=
  Nat.le_trans (sq_bd h5 m o) (Nat.pow_le_pow_right (n := 16) (by decide) hm)

/-! place by place; the place number d is n * row + column -/
def pu (g : Nat → Int) (d : Nat) (v : Int) : Nat → Int := fun j => if j = d then v else g j
theorem pu_eq {g : Nat → Int} {d : Nat} {v : Int} : pu g d v d = v := if_pos rfl
theorem pu_ne {g : Nat → Int} {d j : Nat} {v : Int} (h : j ≠ d) : pu g d v j = g j := if_neg h
def ck (n : Nat) (al : Nat → Int32) (r c : Nat) (a b v : Int) : Bool :=
  decide ((if c = n - 1 then 1 else 0) ≤ a) && (decide (a ≤ 1) && (decide ((if r = n - 1 then 1 else 0) ≤ b) && (decide (b ≤ 1) && al_ok al r c v)))
theorem ck_iff {n : Nat} {al : Nat → Int32} {r c : Nat} {a b v : Int} : ck n al r c a b v = true ↔ (if c = n - 1 then 1 else 0) ≤ a ∧ a ≤ 1 ∧ (if r = n - 1 then 1 else 0) ≤ b ∧ b ≤ 1 ∧ al_ok al r c v = true := by
  unfold ck
  simp only [Bool.and_eq_true, decide_eq_true_eq]
def go (n : Nat) (al : Nat → Int32) (d : Nat) (g : Nat → Int) : Bool :=
  ck n al (d / n) (d % n) (si (fun k => g (d / n * n + k)) (d % n + 1)) (si (fun k => g (k * n + d % n)) (d / n + 1)) (g d)
def yL (n : Nat) (al : Nat → Int32) : Nat → Nat → (Nat → Int) → List (Nat → Int)
  | 0, _, g => [g]
  | m + 1, d, g => [-1, 0, 1].flatMap (fun v => if go n al d (pu g d v) then yL n al m (d + 1) (pu g d v) else [])
def pw : List Int → (Nat → Int) → Nat → (Nat → Int)
  | [], g, _ => g
  | v :: w, g, d => pw w (pu g d v) (d + 1)
def ts (n : Nat) (al : Nat → Int32) : List Int → (Nat → Int) → Nat → Bool
  | [], _, _ => true
  | v :: w, g, d => go n al d (pu g d v) && ts n al w (pu g d v) (d + 1)
theorem yL_k (n : Nat) (al : Nat → Int32) (m : Nat) : ∀ (k d : Nat) (g : Nat → Int), yL n al (k + m) d g = (ws k).flatMap (fun w => if ts n al w g d then yL n al m (d + k) (pw w g d) else [])
  | 0, d, g => by
    rw [Nat.zero_add]
    simp [ws, ts, pw]
  | k + 1, d, g => by
    rw [show k + 1 + m = (k + m) + 1 by omega]
    show [-1, 0, 1].flatMap (fun v => if go n al d (pu g d v) then yL n al (k + m) (d + 1) (pu g d v) else []) = ([-1, 0, 1].flatMap (fun v => (ws k).map (List.cons v))).flatMap _
    rw [List.flatMap_assoc]
    apply lr_ext
    intro v _
    rw [yL_k n al m k (d + 1) (pu g d v), lr_if, List.flatMap_map]
    apply lr_ext
    intro w _
    show (if go n al d (pu g d v) then (if ts n al w (pu g d v) (d + 1) then yL n al m (d + 1 + k) (pw w (pu g d v) (d + 1)) else []) else []) = if (go n al d (pu g d v) && ts n al w (pu g d v) (d + 1)) then yL n al m (d + (k + 1)) (pw w (pu g d v) (d + 1)) else []
    rw [show d + 1 + k = d + (k + 1) by omega]
    cases go n al d (pu g d v)
    · rfl
    · rfl
theorem ws_len : ∀ {k : Nat} {w : List Int}, w ∈ ws k → w.length = k
  | 0, w, h => by
    have e : w = [] := List.mem_singleton.mp h
    subst e; rfl
  | k + 1, w, h => by
    obtain ⟨v, _, h2⟩ := List.mem_flatMap.mp h
    obtain ⟨t, ht, e⟩ := List.mem_map.mp h2
    subst e
    rw [List.length_cons, ws_len ht]
theorem mu_le {i r : Nat} (n : Nat) (h : i < r) : i * n + n ≤ r * n := by
  have := Nat.mul_le_mul_right n (show i + 1 ≤ r from h)
  rw [Nat.succ_mul] at this
  exact this
theorem mu_div {n t : Nat} (r : Nat) (ht : t < n) : (r * n + t) / n = r := by
  rw [Nat.mul_comm, Nat.mul_add_div (by omega), Nat.div_eq_of_lt ht, Nat.add_zero]
theorem mu_mod {n t : Nat} (r : Nat) (ht : t < n) : (r * n + t) % n = t := by
  rw [Nat.mul_comm, Nat.mul_add_mod, Nat.mod_eq_of_lt ht]
def tc (n : Nat) (al : Nat → Int32) (r : Nat) (S : Nat → Int) : Nat → Int → List Int → Bool
  | _, _, [] => true
  | t, a, v :: w => ck n al r t (a + v) (S t + v) v && tc n al r S (t + 1) (a + v) w
theorem ts_tc {n : Nat} (al : Nat → Int32) {r : Nat} (S : Nat → Int) : ∀ (w : List Int) (t : Nat) (g : Nat → Int) (a : Int), t + w.length = n →
    (∀ t', t' < n → si (fun k => g (k * n + t')) r = S t') → si (fun k => g (r * n + k)) t = a → ts n al w g (r * n + t) = tc n al r S t a w
  | [], _, _, _, _, _, _ => rfl
  | v :: w, t, g, a, hl, hS, ha => by
    rw [List.length_cons] at hl
    have ht : t < n := by omega
    have G : go n al (r * n + t) (pu g (r * n + t) v) = ck n al r t (a + v) (S t + v) v := by
      unfold go
      rw [mu_div r ht, mu_mod r ht]
      have x1 : si (fun k => pu g (r * n + t) v (r * n + k)) (t + 1) = a + v := by
        show si (fun k => pu g (r * n + t) v (r * n + k)) t + pu g (r * n + t) v (r * n + t) = a + v
        rw [si_ext (g := fun k => g (r * n + k)) t (fun i hi => pu_ne (by omega)), ha, pu_eq]
      have x2 : si (fun k => pu g (r * n + t) v (k * n + t)) (r + 1) = S t + v := by
        show si (fun k => pu g (r * n + t) v (k * n + t)) r + pu g (r * n + t) v (r * n + t) = S t + v
        rw [si_ext (g := fun k => g (k * n + t)) r (fun i hi => pu_ne (by have := mu_le n hi; omega)), hS t ht, pu_eq]
      rw [x1, x2, pu_eq]
    show (go n al (r * n + t) (pu g (r * n + t) v) && ts n al w (pu g (r * n + t) v) (r * n + (t + 1))) = (ck n al r t (a + v) (S t + v) v && tc n al r S (t + 1) (a + v) w)
    rw [G, ts_tc al S w (t + 1) (pu g (r * n + t) v) (a + v) (by omega)]
    · intro t' ht'
      rw [← hS t' ht']
      exact si_ext r (fun i hi => pu_ne (by have := mu_le n hi; omega))
    · show si (fun k => pu g (r * n + t) v (r * n + k)) t + pu g (r * n + t) v (r * n + t) = a + v
      rw [si_ext (g := fun k => g (r * n + k)) t (fun i hi => pu_ne (by omega)), ha, pu_eq]
theorem tc_gd (n : Nat) (al : Nat → Int32) (r : Nat) (S : Nat → Int) : ∀ (w : List Int) (t : Nat) (a : Int), tc n al r S t a w = true → gd n t a w = true
  | [], _, _, _ => rfl
  | v :: w, t, a, h => by
    have h' : (ck n al r t (a + v) (S t + v) v && tc n al r S (t + 1) (a + v) w) = true := h
    rw [Bool.and_eq_true, ck_iff] at h'
    have h2 := tc_gd n al r S w (t + 1) (a + v) h'.2
    show (decide ((if t = n - 1 then 1 else 0) ≤ a + v) && (decide (a + v ≤ 1) && gd n (t + 1) (a + v) w)) = true
    rw [h2, decide_eq_true h'.1.1, decide_eq_true h'.1.2.1]
    rfl
theorem tc_r (n : Nat) (al : Nat → Int32) (r : Nat) (S e : Nat → Int) : ∀ (k t : Nat), tc n al r S t (si e t) ((List.range' t k).map e) = true ↔ ∀ t', t ≤ t' → t' < t + k → ck n al r t' (si e (t' + 1)) (S t' + e t') (e t') = true
  | 0, t => ⟨fun _ t' h1 h2 => absurd h1 (by omega), fun _ => rfl⟩
  | k + 1, t => by
    rw [List.range'_succ, List.map_cons]
    show (ck n al r t (si e (t + 1)) (S t + e t) (e t) && tc n al r S (t + 1) (si e (t + 1)) ((List.range' (t + 1) k).map e)) = true ↔ _
    rw [Bool.and_eq_true, tc_r n al r S e k (t + 1)]
    constructor
    · intro h t' h1 h2
      by_cases c : t' = t
      · subst c; exact h.1
      · exact h.2 t' (by omega) (by omega)
    · intro h
      exact ⟨h t (Nat.le_refl _) (by omega), fun t' h1 h2 => h t' (by omega) (by omega)⟩
theorem tc_ok {n : Nat} (h1 : 1 ≤ n) (h5 : n ≤ 5) (al : Nat → Int32) {r o i : Nat} (ho : o < 2 ^ n) (hi : i < tb_R n) :
    tc n al r (bi o) 0 0 (rl n i) = true ↔ (ok n i o = true ∧ al_row al n r i = true) ∧ (r = n - 1 → af n i o = 2 ^ n - 1) := by
  have e := tc_r n al r (bi o) (en n i) n 0
  rw [show tc n al r (bi o) 0 0 (rl n i) = tc n al r (bi o) 0 (si (en n i) 0) ((List.range' 0 n).map (en n i)) from rfl, e]
  have hO := ok_iff n (by omega) i hi o ho
  constructor
  · intro h
    have hc : ∀ c, c < n → _ := fun c hc => ck_iff.mp (h c (Nat.zero_le _) (by omega))
    have k1 : ok n i o = true := hO.mpr (fun c hcn => by
      have h3 := (hc c hcn).2.2
      refine ⟨Int.le_trans ?_ h3.1, h3.2.1⟩
      by_cases q : r = n - 1
      · rw [if_pos q]; decide
      · rw [if_neg q]; decide)
    refine ⟨⟨k1, al_row_iff.mpr (fun c hcn => (hc c hcn).2.2.2.2)⟩, fun q => ?_⟩
    obtain ⟨b1, b2⟩ := ok_af n (by omega) i hi o ho k1
    refine (bi_full n (by omega) _ b1).mpr (fun c hcn => ?_)
    rw [b2 c hcn]
    have h3 := (hc c hcn).2.2
    rw [if_pos q] at h3
    omega
  · intro h c _ hcn
    have hcn' : c < n := by omega
    obtain ⟨b1, b2⟩ := ok_af n (by omega) i hi o ho h.1.1
    have k2 := hO.mp h.1.1 c hcn'
    refine ck_iff.mpr ⟨?_, (en_sum0 n (by omega) i hi (c + 1) (by omega)).2, ?_, k2.2, al_row_iff.mp h.1.2 c hcn'⟩
    · by_cases q : c = n - 1
      · rw [if_pos q, show c + 1 = n by omega, en_sum1 n (by omega) (by omega) i hi]
        exact Int.le_refl _
      · rw [if_neg q]
        exact (en_sum0 n (by omega) i hi (c + 1) (by omega)).1
    · by_cases q : r = n - 1
      · rw [if_pos q, ← b2 c hcn', (bi_full n (by omega) _ b1).mp (h.2 q) c hcn']
        exact Int.le_refl _
      · rw [if_neg q]; exact k2.1
theorem rl_len (n i : Nat) : (rl n i).length = n := by
  unfold rl
  rw [List.length_map, List.length_range']
theorem yL_row {n : Nat} (h1 : 1 ≤ n) (h5 : n ≤ 5) (al : Nat → Int32) (m r : Nat) (g S : Nat → Int) (hS : ∀ t', t' < n → si (fun k => g (k * n + t')) r = S t') :
    yL n al (n + m) (r * n) g = (List.range (tb_R n)).flatMap (fun i => if tc n al r S 0 0 (rl n i) then yL n al m ((r + 1) * n) (pw (rl n i) g (r * n)) else []) := by
  rw [yL_k]
  have e : (ws n).flatMap (fun w => if ts n al w g (r * n) then yL n al m (r * n + n) (pw w g (r * n)) else []) = (ws n).flatMap (fun w => if tc n al r S 0 0 w then yL n al m ((r + 1) * n) (pw w g (r * n)) else []) := by
    apply lr_ext
    intro w hw
    have e1 := ts_tc al S w 0 g 0 (by rw [ws_len hw]; omega) hS rfl
    rw [Nat.add_zero] at e1
    rw [e1, Nat.succ_mul]
  rw [e, lr_fil (gd n 0 0) (fun w => tc n al r S 0 0 w) _ (fun w h => tc_gd n al r S w 0 0 h), ws_good h1 h5, List.flatMap_map]
theorem pw_lt : ∀ (w : List Int) (g : Nat → Int) (d j : Nat), j < d → pw w g d j = g j
  | [], _, _, _, _ => rfl
  | v :: w, g, d, j, h => by
    show pw w (pu g d v) (d + 1) j = g j
    rw [pw_lt w (pu g d v) (d + 1) j (by omega), pu_ne (by omega)]
theorem pw_in : ∀ (w : List Int) (g : Nat → Int) (d k : Nat), k < w.length → pw w g d (d + k) = w.getD k 0
  | [], _, _, k, h => absurd h (by show ¬ k < 0; omega)
  | v :: w, g, d, k, h => by
    show pw w (pu g d v) (d + 1) (d + k) = _
    cases k with
    | zero =>
      rw [pw_lt w _ _ _ (by omega)]
      exact pu_eq
    | succ k =>
      rw [show d + (k + 1) = d + 1 + k by omega, pw_in w _ (d + 1) k (by rw [List.length_cons] at h; omega)]
      rfl
theorem rl_get {n i c : Nat} (h : c < n) : (rl n i).getD c 0 = en n i c := by
  unfold rl
  rw [List.getD_eq_getElem?_getD, List.getElem?_map, List.getElem?_range' h]
  simp
theorem pw_rl {n i : Nat} (g : Nat → Int) (d c : Nat) (h : c < n) : pw (rl n i) g d (d + c) = en n i c := by
  rw [pw_in _ _ _ _ (by rw [rl_len]; exact h), rl_get h]
def pws (n : Nat) : List Nat → (Nat → Int) → Nat → (Nat → Int)
  | [], g, _ => g
  | i :: s, g, d => pws n s (pw (rl n i) g d) (d + n)
theorem pws_lt (n : Nat) : ∀ (s : List Nat) (g : Nat → Int) (d j : Nat), j < d → pws n s g d j = g j
  | [], _, _, _, _ => rfl
  | i :: s, g, d, j, h => by
    show pws n s (pw (rl n i) g d) (d + n) j = g j
    rw [pws_lt n s _ _ _ (by omega), pw_lt _ _ _ _ h]
theorem pws_in (n : Nat) : ∀ (s : List Nat) (g : Nat → Int) (d r c : Nat), r < s.length → c < n → pws n s g d (d + (r * n + c)) = en n (s.getD r 0) c
  | [], _, _, r, _, h, _ => absurd h (by show ¬ r < 0; omega)
  | i :: s, g, d, r, c, h, hc => by
    show pws n s (pw (rl n i) g d) (d + n) (d + (r * n + c)) = _
    cases r with
    | zero =>
      rw [Nat.zero_mul, Nat.zero_add, pws_lt n s _ _ _ (by omega)]
      exact pw_rl g d c hc
    | succ r =>
      rw [Nat.succ_mul, show d + (r * n + n + c) = d + n + (r * n + c) by omega, pws_in n s _ (d + n) r c (by rw [List.length_cons] at h; omega) hc]
      rfl
theorem yL_sq {n : Nat} (h1 : 1 ≤ n) (h5 : n ≤ 5) (al : Nat → Int32) : ∀ (m r o : Nat) (g : Nat → Int), r + (m + 1) = n → o < 2 ^ n → (∀ t', t' < n → si (fun k => g (k * n + t')) r = bi o t') →
    yL n al (n * (m + 1)) (r * n) g = (sq n (al_row al n) (m + 1) o).map (fun s => pws n s g (r * n))
  | 0, r, o, g, hr, ho, hS => by
    rw [Nat.zero_add, Nat.mul_one, show yL n al n (r * n) g = yL n al (n + 0) (r * n) g from rfl, yL_row h1 h5 al 0 r g (bi o) hS, sq_s, List.map_flatMap]
    apply lr_ext
    intro i hi
    have hi' := List.mem_range.mp hi
    have T := tc_ok h1 h5 al (r := r) ho hi'
    have er : r = n - 1 := by omega
    unfold sg
    rw [Nat.sub_zero, ← er]
    by_cases c : (ok n i o && al_row al n r i) = true
    · rw [if_pos c]
      rw [Bool.and_eq_true] at c
      unfold sq
      by_cases q : af n i o = 2 ^ n - 1
      · rw [if_pos (T.mpr ⟨c, fun _ => q⟩), if_pos q]
        rfl
      · rw [if_neg (fun z => q ((T.mp z).2 er)), if_neg q]
        rfl
    · rw [if_neg c, if_neg (fun z => c (by rw [Bool.and_eq_true]; exact (T.mp z).1))]
      rfl
  | m + 1, r, o, g, hr, ho, hS => by
    rw [show n * (m + 1 + 1) = n + n * (m + 1) by rw [Nat.mul_succ n (m + 1)]; omega, yL_row h1 h5 al _ r g (bi o) hS, sq_s, List.map_flatMap]
    apply lr_ext
    intro i hi
    have hi' := List.mem_range.mp hi
    have T := tc_ok h1 h5 al (r := r) ho hi'
    unfold sg
    rw [show n - 1 - (m + 1) = r by omega]
    by_cases c : (ok n i o && al_row al n r i) = true
    · rw [if_pos c]
      rw [Bool.and_eq_true] at c
      rw [if_pos (T.mpr ⟨c, fun q => absurd q (by omega)⟩)]
      obtain ⟨b1, b2⟩ := ok_af n (by omega) i hi' o ho c.1
      rw [yL_sq h1 h5 al m (r + 1) (af n i o) _ (by omega) b1, List.map_map]
      · rw [Nat.succ_mul]
        rfl
      · intro t' ht'
        show si (fun k => pw (rl n i) g (r * n) (k * n + t')) r + pw (rl n i) g (r * n) (r * n + t') = _
        rw [pw_rl g _ _ ht', b2 t' ht', ← hS t' ht', si_ext (g := fun k => g (k * n + t')) r (fun k hk => pw_lt _ _ _ _ (by have := mu_le n hk; omega))]
    · rw [if_neg c, if_neg (fun z => c (by rw [Bool.and_eq_true]; exact (T.mp z).1))]
      rfl
/-- a square, place by place -/
def yG (n : Nat) (s : List Nat) : Nat → Int := pws n s (fun _ => 0) 0
theorem yG_at {n : Nat} {s : List Nat} {r c : Nat} (hr : r < s.length) (hc : c < n) : yG n s (r * n + c) = en n (s.getD r 0) c := by
  have e := pws_in n s (fun _ => 0) 0 r c hr hc
  rw [Nat.zero_add] at e
  exact e
theorem yL_all {n : Nat} (h1 : 1 ≤ n) (h5 : n ≤ 5) (al : Nat → Int32) : yL n al (n * n) 0 (fun _ => 0) = (sq n (al_row al n) n 0).map (yG n) := by
  have e := yL_sq h1 h5 al (n - 1) 0 0 (fun _ => 0) (by omega) (Nat.two_pow_pos n) (fun t' _ => by
    show (0 : Int) = bi 0 t'
    unfold bi
    rw [Nat.zero_testBit]; rfl)
  rw [show n - 1 + 1 = n by omega, Nat.zero_mul] at e
  exact e
end
section
/-! what is still to come, the search being at a place -/
def cu (d : Nat) (g : Nat → Int) : Nat → Int := fun j => if j < d then g j else 0
theorem cu_lt {d j : Nat} {g : Nat → Int} (h : j < d) : cu d g j = g j := if_pos h
theorem cu_ext {d : Nat} {g g' : Nat → Int} (h : ∀ j, j < d → g j = g' j) : cu d g = cu d g' := by
  funext j
  unfold cu
  by_cases c : j < d
  · rw [if_pos c, if_pos c, h j c]
  · rw [if_neg c, if_neg c]
def yB (n : Nat) (al : Nat → Int32) (e : Nat) (g : Nat → Int) (v : Int) : List (Nat → Int) := if go n al e (pu g e v) then yL n al (n * n - e - 1) (e + 1) (pu g e v) else []
def yR (n : Nat) (al : Nat → Int32) : Nat → (Nat → Int) → List (Nat → Int)
  | 0, _ => []
  | e + 1, g => ([-1, 0, 1].filter (fun v => decide (g e < v))).flatMap (yB n al e (cu e g)) ++ yR n al e g
theorem yR_ext {n : Nat} {al : Nat → Int32} : ∀ (e : Nat) {g g' : Nat → Int}, (∀ j, j < e → g j = g' j) → yR n al e g = yR n al e g'
  | 0, _, _, _ => rfl
  | e + 1, g, g', h => by
    show ([-1, 0, 1].filter (fun v => decide (g e < v))).flatMap (yB n al e (cu e g)) ++ yR n al e g = ([-1, 0, 1].filter (fun v => decide (g' e < v))).flatMap (yB n al e (cu e g')) ++ yR n al e g'
    rw [h e (by omega), cu_ext (fun j hj => h j (by omega)), yR_ext e (fun j hj => h j (by omega))]
theorem fl_s (v0 : Int) (h1 : -2 ≤ v0) (h2 : v0 < 1) : [-1, 0, 1].filter (fun v => decide (v0 < v)) = (v0 + 1) :: [-1, 0, 1].filter (fun v => decide (v0 + 1 < v)) := by
  have h : v0 = -2 ∨ v0 = -1 ∨ v0 = 0 := by omega
  rcases h with rfl | rfl | rfl
  · decide
  · decide
  · decide
theorem go_ext {n : Nat} {al : Nat → Int32} {e : Nat} {g g' : Nat → Int} (h : ∀ j, j ≤ e → g j = g' j) : go n al e g = go n al e g' := by
  unfold go
  have hd := Nat.div_add_mod' e n
  rw [h e (Nat.le_refl _), si_ext (g := fun k => g' (e / n * n + k)) (e % n + 1) (fun k hk => h _ (by omega)), si_ext (g := fun k => g' (k * n + e % n)) (e / n + 1) (fun k hk => h _ (by
    have := Nat.mul_le_mul_right n (show k ≤ e / n by omega)
    omega))]
theorem pu_cu {e : Nat} {g : Nat → Int} {v : Int} : pu (cu e g) e v = cu (e + 1) (pu g e v) := by
  funext j
  unfold pu cu
  by_cases c : j = e
  · rw [if_pos c, if_pos (by omega)]; exact (if_pos c).symm
  · rw [if_neg c]
    by_cases c2 : j < e
    · rw [if_pos c2, if_pos (by omega)]; exact (if_neg c).symm
    · rw [if_neg c2, if_neg (by omega)]
theorem yB_cu {n : Nat} {al : Nat → Int32} {e : Nat} {g : Nat → Int} {v : Int} : yB n al e (cu e g) v = if go n al e (pu g e v) then yL n al (n * n - e - 1) (e + 1) (cu (e + 1) (pu g e v)) else [] := by
  unfold yB
  have e1 : go n al e (pu (cu e g) e v) = go n al e (pu g e v) := go_ext (fun j hj => by
    rw [pu_cu]
    exact cu_lt (by omega))
  rw [e1, pu_cu]
theorem yR_up {n : Nat} {al : Nat → Int32} {e : Nat} {g : Nat → Int} (h : g e = 1) : yR n al (e + 1) g = yR n al e g := by
  show ([-1, 0, 1].filter (fun v => decide (g e < v))).flatMap (yB n al e (cu e g)) ++ yR n al e g = yR n al e g
  rw [h]
  rfl
theorem yR_s {n : Nat} {al : Nat → Int32} {e : Nat} {g : Nat → Int} (h1 : -2 ≤ g e) (h2 : g e < 1) : yR n al (e + 1) g = yB n al e (cu e g) (g e + 1) ++ yR n al (e + 1) (pu g e (g e + 1)) := by
  show ([-1, 0, 1].filter (fun v => decide (g e < v))).flatMap (yB n al e (cu e g)) ++ yR n al e g = yB n al e (cu e g) (g e + 1) ++ (([-1, 0, 1].filter (fun v => decide (pu g e (g e + 1) e < v))).flatMap (yB n al e (cu e (pu g e (g e + 1)))) ++ yR n al e (pu g e (g e + 1)))
  have x : ∀ j, j < e → pu g e (g e + 1) j = g j := fun j hj => pu_ne (by omega)
  rw [fl_s (g e) h1 h2, List.flatMap_cons, pu_eq, cu_ext x, yR_ext e x, List.append_assoc]
theorem yR_no {n : Nat} {al : Nat → Int32} {e : Nat} {g : Nat → Int} (h1 : -2 ≤ g e) (h2 : g e < 1) (h : go n al e (pu g e (g e + 1)) = false) : yR n al (e + 1) g = yR n al (e + 1) (pu g e (g e + 1)) := by
  rw [yR_s h1 h2, yB_cu, h]
  rfl
theorem yR_dn {n : Nat} {al : Nat → Int32} {e : Nat} {g : Nat → Int} (h1 : -2 ≤ g e) (h2 : g e < 1) (h : go n al e (pu g e (g e + 1)) = true) (he : e + 1 < n * n) : yR n al (e + 1) g = yR n al (e + 2) (pu (pu g e (g e + 1)) (e + 1) (-2)) := by
  rw [yR_s h1 h2, yB_cu, h]
  have x : ∀ j, j < e + 1 → pu (pu g e (g e + 1)) (e + 1) (-2) j = pu g e (g e + 1) j := fun j hj => pu_ne (by omega)
  show yL n al (n * n - e - 1) (e + 1) (cu (e + 1) (pu g e (g e + 1))) ++ _ = ([-1, 0, 1].filter (fun v => decide (pu (pu g e (g e + 1)) (e + 1) (-2) (e + 1) < v))).flatMap (yB n al (e + 1) (cu (e + 1) (pu (pu g e (g e + 1)) (e + 1) (-2)))) ++ yR n al (e + 1) (pu (pu g e (g e + 1)) (e + 1) (-2))
  rw [pu_eq, cu_ext x, yR_ext (e + 1) x, show n * n - e - 1 = (n * n - (e + 1) - 1) + 1 by omega]
  rfl
theorem yR_hit {n : Nat} {al : Nat → Int32} {e : Nat} {g : Nat → Int} (h1 : -2 ≤ g e) (h2 : g e < 1) (h : go n al e (pu g e (g e + 1)) = true) (he : e + 1 = n * n) : yR n al (e + 1) g = cu (n * n) (pu g e (g e + 1)) :: yR n al (n * n) (pu g e (g e + 1)) := by
  rw [yR_s h1 h2, yB_cu, h, show n * n - e - 1 = 0 by omega, he]
  rfl
/-- how much there is still to try -/
def ym (N : Nat) : Nat → (Nat → Int) → Nat
  | 0, _ => 0
  | e + 1, g => ym N e g + (2 - g e).toNat * 5 ^ (N - e)
theorem ym_ext {N : Nat} : ∀ (e : Nat) {g g' : Nat → Int}, (∀ j, j < e → g j = g' j) → ym N e g = ym N e g'
  | 0, _, _, _ => rfl
  | e + 1, g, g', h => by
    show ym N e g + (2 - g e).toNat * 5 ^ (N - e) = ym N e g' + (2 - g' e).toNat * 5 ^ (N - e)
    rw [ym_ext e (fun j hj => h j (by omega)), h e (by omega)]
theorem ym_p {N e : Nat} : 0 < 5 ^ (N - e) := Nat.pow_pos (by decide)
/-- a try counts one less -/
theorem ym_try {N e : Nat} {g : Nat → Int} (h2 : g e ≤ 1) : ym N (e + 1) (pu g e (g e + 1)) + 5 ^ (N - e) = ym N (e + 1) g := by
  show ym N e (pu g e (g e + 1)) + (2 - pu g e (g e + 1) e).toNat * 5 ^ (N - e) + 5 ^ (N - e) = ym N e g + (2 - g e).toNat * 5 ^ (N - e)
  rw [ym_ext (g' := g) e (fun j hj => pu_ne (by omega)), pu_eq]
  have x : (2 - g e).toNat = (2 - (g e + 1)).toNat + 1 := by omega
  rw [x, Nat.succ_mul, Nat.add_assoc]
theorem ym_up {N e : Nat} {g : Nat → Int} (h : g e = 1) : ym N e (pu g e (g e + 1)) < ym N (e + 1) g := by
  have x := ym_try (N := N) (e := e) (g := g) (by omega)
  have y := ym_p (N := N) (e := e)
  have z : ym N (e + 1) (pu g e (g e + 1)) = ym N e (pu g e (g e + 1)) + (2 - pu g e (g e + 1) e).toNat * 5 ^ (N - e) := rfl
  omega
theorem ym_no {N e : Nat} {g : Nat → Int} (h2 : g e ≤ 1) : ym N (e + 1) (pu g e (g e + 1)) < ym N (e + 1) g := by
  have x := ym_try (N := N) (e := e) (g := g) h2
  have y := ym_p (N := N) (e := e)
  omega
theorem ym_dn {N e : Nat} {g : Nat → Int} (h2 : g e ≤ 1) (he : e + 1 < N) : ym N (e + 2) (pu (pu g e (g e + 1)) (e + 1) (-2)) < ym N (e + 1) g := by
  have x := ym_try (N := N) (e := e) (g := g) h2
  have z : ym N (e + 2) (pu (pu g e (g e + 1)) (e + 1) (-2)) = ym N (e + 1) (pu (pu g e (g e + 1)) (e + 1) (-2)) + (2 - pu (pu g e (g e + 1)) (e + 1) (-2) (e + 1)).toNat * 5 ^ (N - (e + 1)) := rfl
  rw [pu_eq, ym_ext (g' := pu g e (g e + 1)) (e + 1) (fun j hj => pu_ne (by omega))] at z
  have w : 5 ^ (N - e) = 5 ^ (N - (e + 1)) * 5 := by
    rw [show N - e = N - (e + 1) + 1 by omega, Nat.pow_succ]
  have y := ym_p (N := N) (e := e + 1)
  have q : ((2 : Int) - (-2)).toNat = 4 := rfl
  rw [q] at z
  omega
end
section
/-! the reference's search -/
def pa (n d : Nat) : Nat := 5 * (d / n) + d % n
theorem pa_rc {n c : Nat} (r : Nat) (hc : c < n) : pa n (r * n + c) = 5 * r + c := by
  unfold pa
  rw [mu_div r hc, mu_mod r hc]
theorem pa_d {n d : Nat} (h1 : 1 ≤ n) (h5 : n ≤ 5) : pa n d / 5 = d / n ∧ pa n d % 5 = d % n := by
  have h := Nat.mod_lt d (show 0 < n by omega)
  unfold pa
  omega
theorem pa_inj {n d e : Nat} (h1 : 1 ≤ n) (h5 : n ≤ 5) (h : pa n d = pa n e) : d = e := by
  have a := pa_d (d := d) h1 h5
  have b := pa_d (d := e) h1 h5
  rw [h] at a
  have x := Nat.div_add_mod' d n
  have y := Nat.div_add_mod' e n
  rw [← x, ← y, ← a.1, ← a.2, ← b.1, ← b.2]
theorem sz_sq {n d : Nat} (h5 : n ≤ 5) (hd : d < n * n) : d < 25 ∧ d / n < n := by
  have h := Nat.mul_le_mul h5 h5
  exact ⟨by omega, Nat.div_lt_of_lt_mul hd⟩
theorem pa_lt {n d : Nat} (h1 : 1 ≤ n) (h5 : n ≤ 5) (hd : d < n * n) : pa n d < 25 := by
  have h := Nat.mod_lt d (show 0 < n by omega)
  have h2 := (sz_sq h5 hd).2
  unfold pa
  omega
theorem nn_le {n : Nat} (h5 : n ≤ 5) : n * n ≤ 25 := Nat.mul_le_mul h5 h5
theorem nI_sq (n : Nat) : nI n * nI n = nI (n * n) := pk_mul n n
theorem si_bd {f : Nat → Int} : ∀ k : Nat, (∀ i, i < k → -2 ≤ f i ∧ f i ≤ 2) → -(2 * (k : Int)) ≤ si f k ∧ si f k ≤ 2 * (k : Int)
  | 0, _ => ⟨by show -(2 * ((0 : Nat) : Int)) ≤ 0; decide, by show (0 : Int) ≤ 2 * ((0 : Nat) : Int); decide⟩
  | k + 1, h => by
    have h1 := si_bd k (fun i hi => h i (by omega))
    have h2 := h k (by omega)
    show -(2 * ((k + 1 : Nat) : Int)) ≤ si f k + f k ∧ si f k + f k ≤ 2 * ((k + 1 : Nat) : Int)
    omega
section
variable {n : Nat} {dp : Int32} {al yh ys yf yo yp : Nat → Int32}
theorem y_pa {post : Int32 → Prop} {d : Nat} (h1 : 1 ≤ n) (h5 : n ≤ 5) (hd : d < 2 ^ 31) (h : post (nI (pa n d))) : wpY_placeAt post ((nI n), dp, al, yh, ys, yf, yo, yp) (nI d) := by
  refine And.intro (nI_ne0 (by omega) (by omega)) (And.intro (nI_ne0 (by omega) (by omega)) ?_)
  rw [pk_div hd (by omega) (by omega), pk_mul, pk_sub (Nat.div_mul_le_self d n), bq_pl]
  have e : d - d / n * n = d % n := by have := Nat.div_add_mod' d n; omega
  rw [e]
  exact h
theorem ck_f {r c : Nat} {a b v : Int} (h : ¬ ((if c = n - 1 then 1 else 0) ≤ a ∧ a ≤ 1 ∧ (if r = n - 1 then 1 else 0) ≤ b ∧ b ≤ 1 ∧ al_ok al r c v = true)) : ck n al r c a b v = false := by
  rw [← Bool.not_eq_true, ck_iff]
  exact h
theorem y_120 {post : Int32 → Prop} {r c : Nat} {a b v : Int} (hr : r < 5) (hc : c < 5) (hv : ys (5 * r + c) = iz_n v)
    (q : (if c = n - 1 then 1 else 0) ≤ a ∧ a ≤ 1 ∧ (if r = n - 1 then 1 else 0) ≤ b ∧ b ≤ 1)
    (hp1 : ck n al r c a b v = true → post 1) (hp0 : ck n al r c a b v = false → post 0) : wY_goesOn_120 post (nI r) (nI c) 1 (nI n) dp al yh ys yf yo yp := by
  refine br_f (by decide) ?_
  rw [bq_pl, bq_cl (by omega), hv]
  refine ⟨bq_in (by omega) (by omega), bq_in (by omega) (by omega), ?_⟩
  refine bq_if (d := al_ok al r c v = true) decide_eq_true_iff.symm (fun z => hp1 (ck_iff.mpr ⟨q.1, q.2.1, q.2.2.1, q.2.2.2, z⟩)) (fun z => hp0 (ck_f (fun w => z w.2.2.2.2)))
theorem y_106 {post : Int32 → Prop} {r c : Nat} {a b v lo : Int} (hr : r < 5) (hc : c < 5) (hv : ys (5 * r + c) = iz_n v) (hlo : lo = if r = n - 1 then 1 else 0) (hb : -10 ≤ b ∧ b ≤ 10)
    (q : (if c = n - 1 then 1 else 0) ≤ a ∧ a ≤ 1)
    (hp1 : ck n al r c a b v = true → post 1) (hp0 : ck n al r c a b v = false → post 0) : wY_goesOn_106 post (nI r) (nI c) (iz_n b) (iz_n lo) (iz_n b) (nI n) dp al yh ys yf yo yp := by
  have hl : lo = 0 ∨ lo = 1 := by
    by_cases z : r = n - 1
    · rw [if_pos z] at hlo; exact Or.inr hlo
    · rw [if_neg z] at hlo; exact Or.inl hlo
  refine iz_blt b lo (fun z => ?_) (fun z => iz_blt 1 b (fun z2 => ?_) (fun z2 => ?_))
  · exact br_t rfl (hp0 (ck_f (fun w => by rw [← hlo] at w; omega)))
  · exact br_t rfl (hp0 (ck_f (fun w => by omega)))
  · exact y_120 hr hc hv ⟨q.1, q.2, by rw [← hlo]; exact z, z2⟩ hp1 hp0
theorem y_81 {post : Int32 → Prop} {r c : Nat} {a b v lo : Int} (h1 : 1 ≤ n) (h5 : n ≤ 5) (hr : r < 5) (hc : c < 5) (hv : ys (5 * r + c) = iz_n v) (hlo : lo = if c = n - 1 then 1 else 0) (ha : -10 ≤ a ∧ a ≤ 10) (hb : -10 ≤ b ∧ b ≤ 10)
    (hp1 : ck n al r c a b v = true → post 1) (hp0 : ck n al r c a b v = false → post 0) : wY_goesOn_81 post (nI r) (nI c) (iz_n a) (iz_n b) (iz_n lo) (iz_n a) (nI n) dp al yh ys yf yo yp := by
  have hl : lo = 0 ∨ lo = 1 := by
    by_cases z : c = n - 1
    · rw [if_pos z] at hlo; exact Or.inr hlo
    · rw [if_neg z] at hlo; exact Or.inl hlo
  have en1 : nI n - 1 = nI (n - 1) := pk_sub (a := n) (b := 1) h1
  refine iz_blt a lo (fun z => ?_) (fun z => iz_blt 1 a (fun z2 => ?_) (fun z2 => ?_))
  · exact br_t rfl (hp0 (ck_f (fun w => by rw [← hlo] at w; omega)))
  · exact br_t rfl (hp0 (ck_f (fun w => by omega)))
  · rw [en1]
    refine pk_eq r (n - 1) (fun e => ?_) (fun e => ?_)
    · exact y_106 (lo := 1) hr hc hv (if_pos e).symm hb ⟨by rw [← hlo]; exact z, z2⟩ hp1 hp0
    · exact y_106 (lo := 0) hr hc hv (if_neg e).symm hb ⟨by rw [← hlo]; exact z, z2⟩ hp1 hp0
theorem y_37 {post : Int32 → Prop} {r c : Nat} {a v : Int} {f : Nat → Int} (h1 : 1 ≤ n) (h5 : n ≤ 5) (hr : r < 5) (hc : c < 5) (hv : ys (5 * r + c) = iz_n v) (ha : -10 ≤ a ∧ a ≤ 10) (hb : -10 ≤ si f (r + 1) ∧ si f (r + 1) ≤ 10)
    (hf : ∀ j, j < r + 1 → ys (5 * j + c) = iz_n (f j))
    (hp1 : ck n al r c a (si f (r + 1)) v = true → post 1) (hp0 : ck n al r c a (si f (r + 1)) v = false → post 0) :
    ∀ (k j : Nat), j + k = r + 1 → wY_goesOn_37 post (nI r) (nI c) (iz_n a) (nI n) dp al yh ys yf yo yp (k + 1) (iz_n (si f j)) (nI j)
  | 0, j, h => by
    have e : j = r + 1 := by omega
    subst e
    have en1 : nI n - 1 = nI (n - 1) := pk_sub (a := n) (b := 1) h1
    refine pk_lt r (r + 1) (fun _ => ?_) (fun z => absurd z (by omega))
    rw [en1]
    refine pk_eq c (n - 1) (fun e => ?_) (fun e => ?_)
    · exact y_81 (lo := 1) h1 h5 hr hc hv (if_pos e).symm ha hb hp1 hp0
    · exact y_81 (lo := 0) h1 h5 hr hc hv (if_neg e).symm ha hb hp1 hp0
  | k + 1, j, h => by
    refine pk_lt r j (fun z => absurd z (by omega)) (fun _ => ?_)
    rw [bq_pl, bq_cl (by omega), hf j (by omega)]
    exact ⟨bq_in (by omega) (by omega), nm_r (e' := iz_n (si f (j + 1))) (iz_add _ _) (nm_r (nI_1 j) (y_37 h1 h5 hr hc hv ha hb hf hp1 hp0 k (j + 1) (by omega)))⟩
theorem y_8 {post : Int32 → Prop} {r c : Nat} {f : Nat → Int} (hr : r < 5) (hc : c < 5)
    (hf : ∀ j, j < c + 1 → ys (5 * r + j) = iz_n (f j))
    (K : ∃ q : Nat, wY_goesOn_37 post (nI r) (nI c) (iz_n (si f (c + 1))) (nI n) dp al yh ys yf yo yp q 0 0) :
    ∀ (k j : Nat), j + k = c + 1 → wY_goesOn_8 post (nI r) (nI c) 0 (nI n) dp al yh ys yf yo yp (k + 1) (iz_n (si f j)) (nI j)
  | 0, j, h => by
    have e : j = c + 1 := by omega
    subst e
    exact pk_lt c (c + 1) (fun _ => K) (fun z => absurd z (by omega))
  | k + 1, j, h => by
    refine pk_lt c j (fun z => absurd z (by omega)) (fun _ => ?_)
    rw [bq_pl, bq_cl (by omega), hf j (by omega)]
    exact ⟨bq_in (by omega) (by omega), nm_r (e' := iz_n (si f (j + 1))) (iz_add _ _) (nm_r (nI_1 j) (y_8 hr hc hf K k (j + 1) (by omega)))⟩
theorem y_goes {post : Int32 → Prop} {e : Nat} {g : Nat → Int} (h1 : 1 ≤ n) (h5 : n ≤ 5) (he : e < n * n) (hg : ∀ j, j ≤ e → -2 ≤ g j ∧ g j ≤ 1) (hs : ∀ j, j ≤ e → ys (pa n j) = iz_n (g j))
    (hp1 : go n al e g = true → post 1) (hp0 : go n al e g = false → post 0) : wpY_goesOn post ((nI n), dp, al, yh, ys, yf, yo, yp) (nI (e / n)) (nI (e % n)) := by
  have hc := Nat.mod_lt e (show 0 < n by omega)
  have hr := (sz_sq h5 he).2
  have hd := Nat.div_add_mod' e n
  have i1 : ∀ k, k < e % n + 1 → e / n * n + k ≤ e := fun k hk => by omega
  have i2 : ∀ k, k < e / n + 1 → k * n + e % n ≤ e := fun k hk => by
    have := Nat.mul_le_mul_right n (show k ≤ e / n by omega)
    omega
  have f1 : ∀ k, k < e % n + 1 → ys (5 * (e / n) + k) = iz_n (g (e / n * n + k)) := fun k hk => by
    rw [← hs _ (i1 k hk), pa_rc _ (by omega)]
  have f2 : ∀ k, k < e / n + 1 → ys (5 * k + e % n) = iz_n (g (k * n + e % n)) := fun k hk => by
    rw [← hs _ (i2 k hk), pa_rc _ (by omega)]
  have f3 : ys (5 * (e / n) + e % n) = iz_n (g e) := hs e (Nat.le_refl _)
  have b1 := si_bd (f := fun k => g (e / n * n + k)) (e % n + 1) (fun k hk => by have := hg _ (i1 k hk); exact ⟨this.1, by omega⟩)
  have b2 := si_bd (f := fun k => g (k * n + e % n)) (e / n + 1) (fun k hk => by have := hg _ (i2 k hk); exact ⟨this.1, by omega⟩)
  refine Exists.intro (e % n + 1 + 1) (y_8 (f := fun k => g (e / n * n + k)) (by omega) (by omega) f1 ?_ (e % n + 1) 0 (by omega))
  exact ⟨e / n + 1 + 1, y_37 (f := fun k => g (k * n + e % n)) h1 h5 (by omega) (by omega) f3 (by omega) (by omega) f2 hp1 hp0 (e / n + 1) 0 (by omega)⟩
/-- the search goes on until the next square, or until all is tried -/
theorem y_adv28 {post : Int32 → SY → Prop} {LG : List (Nat → Int)} (h1 : 1 ≤ n) (h5 : n ≤ 5)
    (H0 : LG = [] → ∀ zs : Nat → Int32, post 0 ((nI n), (-1), al, yh, zs, yf, yo, yp))
    (H1 : ∀ (g : Nat → Int) (zs : Nat → Int32), LG = cu (n * n) g :: yR n al (n * n) g → (∀ j, j < n * n → zs (pa n j) = iz_n (g j)) → (∀ j, j < n * n → -1 ≤ g j ∧ g j ≤ 1) → post 1 ((nI n), (nI (n * n)), al, yh, zs, yf, yo, yp)) :
    ∀ (M e : Nat) (g : Nat → Int) (zs : Nat → Int32), e < n * n → ym (n * n) (e + 1) g < M → yR n al (e + 1) g = LG → -2 ≤ g e → (∀ j, j < e → -1 ≤ g j) → (∀ j, j ≤ e → g j ≤ 1) → (∀ j, j ≤ e → zs (pa n j) = iz_n (g j)) →
    wY_advance_28 post (nI (n * n)) (nI n) (M + 1) (nI e) al yh zs yf yo yp
  | 0, e, g, zs, he, hm, hL, hl, hb1, hb2, hs => absurd hm (by omega)
  | M + 1, e, g, zs, he, hm, hL, hl, hb1, hb2, hs => by
    have hN := nn_le h5
    have hp := pa_lt h1 h5 he
    have hpd := pa_d (d := e) h1 h5
    have n0 : 0 < n * n := by omega
    refine br_f (nI_pos (by omega)) (br_f (nI_ge he (by omega)) (y_pa h1 h5 (by omega) ?_))
    rw [bq_cl (by omega)]
    refine ⟨bq_in hp (by omega), bq_in hp (by omega), ?_⟩
    rw [hs e (Nat.le_refl _), show (1 : Int32) = iz_n 1 from rfl, iz_add]
    refine nm_e ⟨bq_in hp (by omega), ?_⟩
    rw [pk_us]
    -- the square with the next value at e
    have hs' : ∀ j, j ≤ e → upd zs (pa n e) (iz_n (g e + 1)) (pa n j) = iz_n (pu g e (g e + 1) j) := fun j hj => by
      by_cases c : j = e
      · subst c; rw [pk_us, pu_eq]
      · rw [pk_un (fun z => c (pa_inj h1 h5 z)), pu_ne c, hs j hj]
    have hge := hb2 e (Nat.le_refl _)
    have hb1' : ∀ j, j ≤ e → -1 ≤ pu g e (g e + 1) j := fun j hj => by
      by_cases c : j = e
      · subst c; rw [pu_eq]; omega
      · rw [pu_ne c]; exact hb1 j (by omega)
    refine iz_ble (g e + 1) 1 (fun z => ?_) (fun z => ?_)
    · have hb2' : ∀ j, j ≤ e → pu g e (g e + 1) j ≤ 1 := fun j hj => by
        by_cases c : j = e
        · subst c; rw [pu_eq]; omega
        · rw [pu_ne c]; exact hb2 j hj
      refine ⟨by decide, by decide, ?_⟩
      rw [show (5 : Int32) = nI 5 from rfl, pk_div (by omega) (by omega) (by omega), pk_mul, pk_sub (Nat.div_mul_le_self _ _), show pa n e - pa n e / 5 * 5 = pa n e % 5 by omega, hpd.1, hpd.2]
      refine y_goes (g := pu g e (g e + 1)) h1 h5 he (fun j hj => ⟨by have := hb1' j hj; omega, hb2' j hj⟩) hs' (fun hg => ?_) (fun hg => ?_)
      · refine br_f (by decide) (nm_r (nI_1 e) ?_)
        refine pk_le (n * n) (e + 1) (fun c => ?_) (fun c => ?_)
        · have ee : e + 1 = n * n := by omega
          rw [ee]
          have hit := yR_hit hl (by omega) hg ee
          refine br_f (nI_pos (by omega)) (br_t (nI_le (Nat.le_refl _) (by omega)) (br_t rfl ?_))
          exact H1 (pu g e (g e + 1)) _ (hL.symm.trans hit) (fun j hj => hs' j (by omega)) (fun j hj => ⟨hb1' j (by omega), hb2' j (by omega)⟩)
        · refine y_pa h1 h5 (by omega) ?_
          have hp2 := pa_lt h1 h5 c
          rw [bq_cl (by omega)]
          refine ⟨bq_in hp2 (by omega), nm_e ?_⟩
          have hd : ym (n * n) (e + 1 + 1) (pu (pu g e (g e + 1)) (e + 1) (-2)) < ym (n * n) (e + 1) g := ym_dn (N := n * n) hge c
          refine y_adv28 h1 h5 H0 H1 M (e + 1) (pu (pu g e (g e + 1)) (e + 1) (-2)) _ c (by omega) ((yR_dn hl (by omega) hg c).symm.trans hL) (by rw [pu_eq]; omega) (fun j hj => ?_) (fun j hj => ?_) (fun j hj => ?_)
          · rw [pu_ne (by omega)]; exact hb1' j (by omega)
          · by_cases q : j = e + 1
            · subst q; rw [pu_eq]; decide
            · rw [pu_ne q]; exact hb2' j (by omega)
          · by_cases q : j = e + 1
            · subst q; rw [pk_us, pu_eq]; rfl
            · rw [pk_un (fun z => q (pa_inj h1 h5 z)), pu_ne q]; exact hs' j (by omega)
      · refine br_t rfl ?_
        have hd := ym_no (N := n * n) hge
        exact y_adv28 h1 h5 H0 H1 M e (pu g e (g e + 1)) _ he (by omega) ((yR_no hl (by omega) hg).symm.trans hL) (by have := hb1' e (Nat.le_refl _); omega) (fun j hj => hb1' j (by omega)) hb2' hs'
    · have hg1 : g e = 1 := by omega
      have hd := ym_up (N := n * n) hg1
      cases e with
      | zero =>
        refine nm_r (e' := (-1 : Int32)) (by decide) ?_
        refine br_t (by decide) (br_f ?_ ?_)
        · exact fun z => absurd (show (-1 : Int32) < nI (n * n) from Int32.lt_of_lt_of_le (b := 0) (by decide) (nI_pos' (by omega))) (by rw [← z]; exact Int32.lt_irrefl)
        · exact H0 (hL.symm.trans (yR_up hg1)) _
      | succ e =>
        refine nm_r (nI_pred e) ?_
        refine y_adv28 h1 h5 H0 H1 M e (pu g (e + 1) (g (e + 1) + 1)) _ (by omega) (by omega) ?_ ?_ (fun j hj => hb1' j (by omega)) (fun j hj => ?_) (fun j hj => hs' j (by omega))
        · rw [← hL, yR_up hg1]
          exact yR_ext _ (fun j hj => pu_ne (by omega))
        · have := hb1' e (by omega); omega
        · rw [pu_ne (by omega)]; exact hb2 j (by omega)
/-- the search's state: L are the squares still to come -/
def YS (n : Nat) (al : Nat → Int32) (L : List (List Nat)) (dp : Int32) (ys : Nat → Int32) : Prop :=
  ∃ (e : Nat) (g : Nat → Int), e < n * n ∧ (dp = nI e ∨ (dp = nI (n * n) ∧ e + 1 = n * n)) ∧ yR n al (e + 1) g = L.map (yG n) ∧ -2 ≤ g e ∧ (∀ j, j < e → -1 ≤ g j) ∧ (∀ j, j ≤ e → g j ≤ 1) ∧ (∀ j, j ≤ e → ys (pa n j) = iz_n (g j))
/-- an array shows a square -/
def Sh (n : Nat) (s : List Nat) (f : Nat → Int32) : Prop := ∀ r, r < n → ∀ c, c < n → f (5 * r + c) = iz_n (en n (s.getD r 0) c)
def OK (n : Nat) (s : List Nat) : Prop := s.length = n ∧ ∀ r, r < n → s.getD r 0 < tb_R n
theorem y_adv {post : Int32 → SY → Prop} {L : List (List Nat)} (h1 : 1 ≤ n) (h5 : n ≤ 5) (hO : ∀ s, s ∈ L → OK n s) (I : YS n al L dp ys)
    (H0 : L = [] → ∀ (d : Int32) (zs : Nat → Int32), post 0 ((nI n), d, al, yh, zs, yf, yo, yp))
    (H1 : ∀ (s : List Nat) (L' : List (List Nat)), L = s :: L' → ∀ (d : Int32) (zs : Nat → Int32), YS n al L' d zs → Sh n s zs → post 1 ((nI n), d, al, yh, zs, yf, yo, yp)) :
    wpY_advance post ((nI n), dp, al, yh, ys, yf, yo, yp) := by
  obtain ⟨e, g, he, hd, hL, hl, hb1, hb2, hs⟩ := I
  have hN := nn_le h5
  have M := y_adv28 (post := post) (al := al) (yh := yh) (yf := yf) (yo := yo) (yp := yp) h1 h5 (LG := L.map (yG n))
    (fun z zs => H0 (List.map_eq_nil_iff.mp z) _ zs)
    (fun g' zs hz hzs hgb => by
      cases L with
      | nil => exact absurd hz (by intro z; cases z)
      | cons s L' =>
        have hz' : yG n s :: L'.map (yG n) = cu (n * n) g' :: yR n al (n * n) g' := hz
        have e1 := (List.cons.inj hz').1
        have e2 := (List.cons.inj hz').2
        have hOs := hO s (List.mem_cons_self ..)
        refine H1 s L' rfl _ zs ⟨n * n - 1, g', by omega, Or.inr ⟨rfl, by omega⟩, ?_, ?_, ?_, ?_, ?_⟩ ?_
        · rw [show n * n - 1 + 1 = n * n by omega]; exact e2.symm
        · have := (hgb (n * n - 1) (by omega)).1; omega
        · exact fun j hj => (hgb j (by omega)).1
        · exact fun j hj => (hgb j (by omega)).2
        · exact fun j hj => hzs j (by omega)
        · intro r hr c hc
          have hi : r * n + c < n * n := by have := mu_le n hr; omega
          rw [← yG_at (by rw [hOs.1]; exact hr) hc, e1, cu_lt hi, ← hzs _ hi, pa_rc r hc])
    (ym (n * n) (e + 1) g + 1) e g ys he (by omega) hL hl hb1 hb2 hs
  refine nm_r (nI_sq n) ?_
  rcases hd with rfl | ⟨rfl, hd⟩
  · exact br_f (fun z => by rw [nI_eq (by omega) (by omega)] at z; omega) ⟨_, M⟩
  · refine br_t rfl (nm_r (e' := nI e) ?_ ⟨_, M⟩)
    rw [← hd]; exact nI_pred e
theorem y_begin {post : SY → Prop} (h1 : 1 ≤ n) (h5 : n ≤ 5) (H : ∀ zs : Nat → Int32, YS n al (sq n (al_row al n) n 0) 0 zs → post ((nI n), 0, al, yh, zs, yf, yo, yp)) : wpY_begin post ((nI n), dp, al, yh, ys, yf, yo, yp) := by
  have n0 : 0 < n * n := Nat.mul_pos (by omega) (by omega)
  refine nm_e (H _ ⟨0, fun _ => -2, n0, Or.inl rfl, ?_, by decide, fun j hj => absurd hj (by omega), fun j hj => (by show (-2 : Int) ≤ 1; decide), fun j hj => ?_⟩)
  · rw [← yL_all h1 h5]
    show ([-1, 0, 1].filter (fun v => decide ((-2 : Int) < v))).flatMap (yB n al 0 (cu 0 (fun _ => -2))) ++ [] = _
    have e0 : cu 0 (fun _ => (-2 : Int)) = fun _ => 0 := by
      funext j
      exact if_neg (by omega)
    rw [e0, List.append_nil]
    obtain ⟨m, hm⟩ : ∃ m, n * n = m + 1 := ⟨n * n - 1, by omega⟩
    have hB : yB n al 0 (fun _ => 0) = fun v => if go n al 0 (pu (fun _ => 0) 0 v) then yL n al m (0 + 1) (pu (fun _ => 0) 0 v) else [] := by
      funext v
      unfold yB
      rw [show n * n - 0 - 1 = m by omega]
    rw [hB, hm]
    rfl
  · have e : j = 0 := by omega
    subst e
    rw [show pa n 0 = 0 by unfold pa; simp, pk_us]
    rfl
theorem sq_OK {A : Nat → Nat → Bool} : ∀ s, s ∈ sq n A n 0 → OK n s := fun s hs => sq_mem hs
end
end
section
/-! the component's small methods -/
def isp (n : Nat) (x y : Int32) : Prop := ∃ r c : Nat, r < n ∧ c < n ∧ x = nI r ∧ y = nI c
theorem isp_no {n : Nat} (h5 : n ≤ 5) {x y : Int32} (h : x < 0 ∨ nI n ≤ x ∨ y < 0 ∨ nI n ≤ y) : ¬ isp n x y := by
  rintro ⟨r, c, hr, hc, rfl, rfl⟩
  rcases h with h | h | h | h
  · exact nI_pos (by omega) h
  · exact nI_ge hr (by omega) h
  · exact nI_pos (by omega) h
  · exact nI_ge hc (by omega) h
theorem isp_yes {n : Nat} (h5 : n ≤ 5) {x y : Int32} (h1 : ¬ x < 0) (h2 : ¬ nI n ≤ x) (h3 : ¬ y < 0) (h4 : ¬ nI n ≤ y) : isp n x y := by
  obtain ⟨r, hr, rfl⟩ := nI_of h1
  obtain ⟨c, hc, rfl⟩ := nI_of h3
  rw [nI_leI (by omega) (by omega)] at h2 h4
  exact ⟨r, c, by omega, by omega, rfl, rfl⟩
theorem isp_iz {n : Nat} (h5 : n ≤ 5) {a b : Int} (ha : -100 ≤ a ∧ a ≤ 100) (hb : -100 ≤ b ∧ b ≤ 100) : isp n (iz_n a) (iz_n b) ↔ (0 ≤ a ∧ a < n) ∧ (0 ≤ b ∧ b < n) := by
  constructor
  · rintro ⟨r, c, hr, hc, e1, e2⟩
    rw [← iz_nat, iz_eq (by omega) (by omega) (by omega) (by omega)] at e1 e2
    omega
  · rintro ⟨⟨p, q⟩, ⟨s, t⟩⟩
    refine ⟨a.toNat, b.toNat, by omega, by omega, ?_, ?_⟩
    · rw [← iz_nat]; exact congrArg iz_n (by omega)
    · rw [← iz_nat]; exact congrArg iz_n (by omega)
theorem and1_01 (x : Int32) : x &&& 1 = 0 ∨ x &&& 1 = 1 := by
  obtain ⟨j, hj, e⟩ := pk_andE x (m := 1) 1 (by decide)
  have h : j = 0 ∨ j = 1 := by omega
  rcases h with rfl | rfl
  · exact Or.inl e
  · exact Or.inr e
theorem al_z {al : Nat → Int32} {r c : Nat} {v : Int} : (((al (5 * r + c)) >>> ((iz_n v + 1) &&& 31)) &&& 1) = 0 ↔ al_ok al r c v = false := by
  unfold al_ok
  rw [decide_eq_false_iff_not]
  constructor
  · intro h; rw [h]; decide
  · intro h
    rcases and1_01 ((al (5 * r + c)) >>> ((iz_n v + 1) &&& 31)) with z | z
    · exact z
    · exact absurd z h
section
variable {n : Nat} {fk ar ac cb : Int32} {al hd be ab bw wk fl fa co se : Nat → Int32}
theorem x_isP {post : Int32 → Prop} {p q : Int32} (h5 : n ≤ 5) (H1 : isp n p q → post 1) (H0 : ¬ isp n p q → post 0) : wpX_isPlace post ((nI n), (nI (tb_R n)), fk, ar, ac, cb, (tP n), (tM n), al, hd, be, ab, bw, wk, fl, fa, co, se) p q :=
  br_c (fun h => H0 (isp_no h5 (Or.inl h))) (fun a => br_c (fun h => H0 (isp_no h5 (Or.inr (Or.inl h)))) (fun b => br_c (fun h => H0 (isp_no h5 (Or.inr (Or.inr (Or.inl h))))) (fun c => br_c (fun h => H0 (isp_no h5 (Or.inr (Or.inr (Or.inr h))))) (fun d => H1 (isp_yes h5 a b c d)))))
theorem x_pl {post : Int32 → Prop} {r c : Nat} (h : post (nI (5 * r + c))) : wpX_place post (nI r) (nI c) := by
  rw [← bq_pl] at h
  exact h
theorem x_en {post : Int32 → Prop} {i c : Nat} (h5 : n ≤ 5) (hi : i < 16) (hc : c < 5) (h : post (iz_n (en n i c))) : wpX_entryIn post (tP n (nI i).toNatClampNeg) (tM n (nI i).toNatClampNeg) (nI c) := by
  rw [bq_cl (by omega)]
  have e : ((tP n i >>> (nI c &&& 31)) &&& 1) - ((tM n i >>> (nI c &&& 31)) &&& 1) = iz_n (en n i c) := by
    have t := tb_lt n (by omega) i hi
    unfold tP tM
    rw [tb_bit _ t.1 c hc, tb_bit _ t.2 c hc, iz_sub]
    rfl
  rw [← e] at h
  exact h
theorem x_fol {post : Int32 → Prop} {i o : Nat} (h5 : n ≤ 5) (hi : i < 16) (ho : o < 32) (H1 : ok n i o = true → post 1) (H0 : ok n i o = false → post 0) : wpX_follows post ((nI n), (nI (tb_R n)), fk, ar, ac, cb, (tP n), (tM n), al, hd, be, ab, bw, wk, fl, fa, co, se) (nI i) (nI o) := by
  have t := tb_lt n (by omega) i hi
  have b1 := tb_and32 (tb_P n i) o t.1
  have b2 := (tb_not _ t.2 o ho).2
  refine And.intro (bq_in hi (by omega)) ?_
  rw [bq_cl (by omega), show tP n i = nI (tb_P n i) from rfl, show tM n i = nI (tb_M n i) from rfl, nx_and, (tb_not _ t.2 o ho).1]
  refine pk_eq (tb_P n i &&& o) 0 (fun h => ⟨bq_in hi (by omega), pk_eq (tb_M n i &&& (o ^^^ 31)) 0 (fun h2 => H1 ?_) (fun h2 => H0 ?_)⟩) (fun h => H0 ?_)
  · unfold ok; rw [h, h2]; rfl
  · unfold ok; rw [h, beq_eq_false_iff_ne.mpr h2]; rfl
  · unfold ok; rw [beq_eq_false_iff_ne.mpr h]; rfl
theorem x_aft {post : Int32 → Prop} {i o : Nat} (h5 : n ≤ 5) (hi : i < 16) (ho : o < 32) (H : post (nI (af n i o))) : wpX_openAfter post ((nI n), (nI (tb_R n)), fk, ar, ac, cb, (tP n), (tM n), al, hd, be, ab, bw, wk, fl, fa, co, se) (nI i) (nI o) := by
  have t := tb_lt n (by omega) i hi
  refine And.intro (bq_in hi (by omega)) (And.intro (bq_in hi (by omega)) ?_)
  rw [bq_cl (by omega), show tP n i = nI (tb_P n i) from rfl, show tM n i = nI (tb_M n i) from rfl, (tb_or o ho _ t.1).1, (tb_not _ (tb_or o ho _ t.1).2 _ t.2).1]
  exact H
theorem x_isA2 {post : Int32 → Prop} {r i : Nat} (h5 : n ≤ 5) (hr : r < 5) (hi : i < 16) (H1 : al_row al n r i = true → post 1) (H0 : al_row al n r i = false → post 0) :
    ∀ (k c : Nat), c + k = n → (∀ c', c' < c → al_ok al r c' (en n i c') = true) → wX_isAllowed_2 post (nI r) (nI i) (nI n) (nI (tb_R n)) fk ar ac cb (tP n) (tM n) al hd be ab bw wk fl fa co se (k + 1) (nI c)
  | 0, c, h, hc => by
    refine pk_le n c (fun _ => H1 (al_row_iff.mpr (fun c' hc' => hc c' (by omega)))) (fun z => absurd z (by omega))
  | k + 1, c, h, hc => by
    refine pk_le n c (fun z => absurd z (by omega)) (fun hcn => ⟨bq_in hi (by omega), bq_in hi (by omega), x_en h5 hi (by omega) (x_pl ?_)⟩)
    rw [bq_cl (by omega)]
    refine ⟨bq_in (by omega) (by omega), bq_if al_z (fun z => H0 ?_) (fun z => nm_r (nI_1 c) (x_isA2 h5 hr hi H1 H0 k (c + 1) (by omega) (fun c' hc' => ?_)))⟩
    · rw [← Bool.not_eq_true, al_row_iff]
      intro w
      rw [w c hcn] at z
      cases z
    · by_cases e : c' = c
      · subst e
        exact Bool.not_eq_false _ ▸ z
      · exact hc c' (by omega)
theorem x_isA {post : Int32 → Prop} {r i : Nat} (h5 : n ≤ 5) (hr : r < 5) (hi : i < 16) (H1 : al_row al n r i = true → post 1) (H0 : al_row al n r i = false → post 0) : wpX_isAllowed post ((nI n), (nI (tb_R n)), fk, ar, ac, cb, (tP n), (tM n), al, hd, be, ab, bw, wk, fl, fa, co, se) (nI r) (nI i) :=
  Exists.intro (n + 1) (x_isA2 h5 hr hi H1 H0 n 0 (by omega) (fun c' hc' => absurd hc' (by omega)))
end
theorem bi_nI (m c : Nat) : iz_n (bi m c) = nI (if m.testBit c = true then 1 else 0) := by
  unfold bi
  by_cases h : m.testBit c = true
  · rw [if_pos h, if_pos h]; rfl
  · rw [if_neg h, if_neg h]; rfl
theorem x_ones4 {post : Int32 → Prop} {m : Nat} (hm : m < 32) (H : post (nI (sn (fun c => if m.testBit c = true then 1 else 0) 5))) :
    ∀ (k c : Nat), c + k = 5 → wX_ones_4 post (nI m) (k + 1) (nI (sn (fun c => if m.testBit c = true then 1 else 0) c)) (nI c)
  | 0, c, h => by
    have e : c = 5 := by omega
    subst e
    exact pk_le 5 5 (fun _ => H) (fun z => absurd z (by omega))
  | k + 1, c, h => by
    refine pk_le 5 c (fun z => absurd z (by omega)) (fun hc => ?_)
    rw [tb_bit m hm c hc, bi_nI]
    exact nm_r (e' := nI (sn (fun c => if m.testBit c = true then 1 else 0) (c + 1))) (nI_add _ _) (nm_r (nI_1 c) (x_ones4 hm H k (c + 1) (by omega)))
theorem x_ones {post : Int32 → Prop} {n i : Nat} (h5 : n ≤ 5) (hi : i < 16) (H : post (nI (nn n i))) : wpX_ones post (tM n (nI i).toNatClampNeg) := by
  rw [bq_cl (by omega), show tM n i = nI (tb_M n i) from rfl]
  exact Exists.intro 6 (x_ones4 (tb_lt n (by omega) i hi).2 H 5 0 (by omega))
end
section
/-! the component's rows are the tables -/
/-- one code's row as the component reads it: fuel, then rest, weight, columns with 1, with -1, sum, good, column -/
def tkS (fn : Int32) : Nat → Int32 → Int32 → Int32 → Int32 → Int32 → Int32 → Int32 → Int32 × Int32 × Int32 × Int32
  | 0, _, _, x5, x6, x7, x8, _ => (x5, x6, x7, x8)
  | k + 1, x3, x4, x5, x6, x7, x8, x9 => tkS fn k (x3 - x3 / x4 * x4) (if x4 ≤ 1 then 1 else x4 / 3)
      (x5 ||| (if x3 / x4 - 1 = 1 then (1 : Int32) <<< (x9 &&& 31) else 0)) (x6 ||| (if x3 / x4 - 1 = -1 then (1 : Int32) <<< (x9 &&& 31) else 0)) (x7 + (x3 / x4 - 1))
      (if x8 = 0 then 0 else if x7 + (x3 / x4 - 1) < 0 then 0 else if 1 < x7 + (x3 / x4 - 1) then 0 else 1) (x9 + 1)
def tkO (n code : Nat) : Option (Int32 × Int32) :=
  let t := tkS (nI n) n (nI code) (nI (3 ^ n) / 3) 0 0 0 1 0
  if t.2.2.2 = 0 then none else if t.2.2.1 = 1 then some (t.1, t.2.1) else none
def tkL (n t : Nat) : List (Int32 × Int32) := (List.range t).filterMap (tkO n)
theorem tkL_s (n t : Nat) : tkL n (t + 1) = tkL n t ++ (tkO n t).toList := by
  unfold tkL
  rw [List.range_succ, List.filterMap_append]
  congr 1
theorem tkL_mono (n t : Nat) : ∀ d : Nat, (tkL n t).length ≤ (tkL n (t + d)).length
  | 0 => Nat.le_refl _
  | d + 1 => by
    rw [show t + (d + 1) = (t + d) + 1 by omega, tkL_s, List.length_append]
    have := tkL_mono n t d
    omega
def tkT (n : Nat) : List (Int32 × Int32) := (List.range (tb_R n)).map (fun i => (tP n i, tM n i))
theorem tkL_all {n : Nat} (h1 : 1 ≤ n) (h5 : n ≤ 5) : tkL n (3 ^ n) = tkT n :=
  tb_n (P := fun n => tkL n (3 ^ n) = tkT n) (by decide +kernel) (by decide +kernel) (by decide +kernel) (by decide +kernel) (by decide +kernel) h1 h5
theorem tkL_len {n t : Nat} (h1 : 1 ≤ n) (h5 : n ≤ 5) (ht : t ≤ 3 ^ n) : (tkL n t).length ≤ 16 := by
  have h := tkL_mono n t (3 ^ n - t)
  rw [show t + (3 ^ n - t) = 3 ^ n by omega, tkL_all h1 h5] at h
  unfold tkT at h
  rw [List.length_map, List.length_range] at h
  exact Nat.le_trans h (tb_R16 h5)
/-- an array made of a list -/
def fL (L : List Int32) : Nat → Int32 := fun i => L.getD i 0
theorem fL_upd (L : List Int32) (x : Int32) : upd (fL L) L.length x = fL (L ++ [x]) := by
  funext i
  unfold upd fL
  by_cases h : i = L.length
  · subst h
    rw [if_pos rfl]
    simp
  · rw [if_neg h]
    by_cases h2 : i < L.length
    · simp [List.getElem?_append_left h2]
    · rw [List.getD_eq_getElem?_getD, List.getD_eq_getElem?_getD, List.getElem?_eq_none (by omega), List.getElem?_eq_none (by rw [List.length_append, List.length_singleton]; omega)]
theorem fL_P {n : Nat} (h1 : 1 ≤ n) (h5 : n ≤ 5) : fL ((tkT n).map Prod.fst) = tP n ∧ fL ((tkT n).map Prod.snd) = tM n := by
  have hl : (tb_pl n).length = tb_R n ∧ (tb_mi n).length = tb_R n := tb_n (P := fun n => (tb_pl n).length = tb_R n ∧ (tb_mi n).length = tb_R n) (by decide) (by decide) (by decide) (by decide) (by decide) h1 h5
  constructor
  · funext i
    unfold fL tkT
    by_cases h : i < tb_R n
    · simp [h]
    · rw [List.getD_eq_getElem?_getD, List.getElem?_eq_none (by simp; omega)]
      unfold tP tb_P
      rw [List.getD_eq_getElem?_getD, List.getElem?_eq_none (by omega)]
      rfl
  · funext i
    unfold fL tkT
    by_cases h : i < tb_R n
    · simp [h]
    · rw [List.getD_eq_getElem?_getD, List.getElem?_eq_none (by simp; omega)]
      unfold tM tb_M
      rw [List.getD_eq_getElem?_getD, List.getElem?_eq_none (by omega)]
      rfl
theorem w3 : ∀ j, j < 6 → ¬ nI (3 ^ j) = 0 ∧ (if nI (3 ^ j) ≤ 1 then (1 : Int32) else nI (3 ^ j) / 3) = nI (3 ^ (j - 1)) := by decide +kernel
theorem w3i : ∀ n, n < 6 → 0 < n → nI (3 ^ n) / 3 = nI (3 ^ (n - 1)) := by decide +kernel
def a7 (p : Nat) : Nat → Int32 := fun q => if q < p then 7 else 0
theorem a7_upd (p : Nat) : upd (a7 p) p 7 = a7 (p + 1) := by
  funext q
  unfold upd a7
  by_cases c : q = p
  · rw [if_pos c, if_pos (by omega)]
  · rw [if_neg c]
    by_cases d : q < p
    · rw [if_pos d, if_pos (by omega)]
    · rw [if_neg d, if_neg (by omega)]
theorem a7_0 : a7 0 = fun _ => 0 := by
  funext q
  exact if_neg (by omega)
section
variable {n : Nat} {fr fk ar ac cb : Int32} {pl mi al hd be ab bw wk fl fa co se : Nat → Int32}
theorem x_tk20 {post : SX → Prop} (h5 : n ≤ 5) : ∀ (k c j : Nat) (x3 x5 x6 x7 x8 : Int32), c + k = n → j < 6 →
    (∀ t : Int32 × Int32 × Int32 × Int32, t = tkS (nI n) k x3 (nI (3 ^ j)) x5 x6 x7 x8 (nI c) →
      ((t.2.2.2 = 0 → post ((nI n), fr, fk, ar, ac, cb, pl, mi, al, hd, be, ab, bw, wk, fl, fa, co, se)) ∧ (¬ t.2.2.2 = 0 → ((t.2.2.1 = 1 → (vp_in fr 16 ∧ post ((nI n), (fr + 1), fk, ar, ac, cb, (upd pl fr.toNatClampNeg t.1), (upd mi fr.toNatClampNeg t.2.1), al, hd, be, ab, bw, wk, fl, fa, co, se))) ∧ (¬ t.2.2.1 = 1 → post ((nI n), fr, fk, ar, ac, cb, pl, mi, al, hd, be, ab, bw, wk, fl, fa, co, se)))))) →
    wX_takeRow_20 post (nI n) fr fk ar ac cb pl mi al hd be ab bw wk fl fa co se (k + 1) x3 (nI (3 ^ j)) x5 x6 x7 x8 (nI c)
  | 0, c, j, x3, x5, x6, x7, x8, h, hj, H => by
    have H' := H _ rfl
    refine pk_le n c (fun _ => ?_) (fun z => absurd z (by omega))
    refine ⟨fun z => H'.1 z, fun z => ⟨fun z2 => ?_, fun z2 => (H'.2 z).2 z2⟩⟩
    have H2 := (H'.2 z).1 z2
    exact ⟨H2.1, nm_e ⟨H2.1, nm_e (nm_e H2.2)⟩⟩
  | k + 1, c, j, x3, x5, x6, x7, x8, h, hj, H => by
    have w := w3 j hj
    have IH := x_tk20 h5 k (c + 1) (j - 1) (x3 - x3 / nI (3 ^ j) * nI (3 ^ j)) (x5 ||| (if x3 / nI (3 ^ j) - 1 = 1 then (1 : Int32) <<< (nI c &&& 31) else 0)) (x6 ||| (if x3 / nI (3 ^ j) - 1 = -1 then (1 : Int32) <<< (nI c &&& 31) else 0)) (x7 + (x3 / nI (3 ^ j) - 1)) (if x8 = 0 then 0 else if x7 + (x3 / nI (3 ^ j) - 1) < 0 then 0 else if 1 < x7 + (x3 / nI (3 ^ j) - 1) then 0 else 1) (by omega) (by omega) (fun t ht => H t (by rw [ht, ← w.2, ← nI_1]; rfl))
    refine pk_le n c (fun z => absurd z (by omega)) (fun _ => ⟨w.1, nm_e ⟨w.1, nm_e ?_⟩⟩)
    rw [← w.2, ← nI_1] at IH
    revert IH
    generalize x3 / nI (3 ^ j) - 1 = e
    generalize x3 - x3 / nI (3 ^ j) * nI (3 ^ j) = rest
    intro IH
    have fin : ∀ (wt up : Int32), wt = (if nI (3 ^ j) ≤ 1 then (1 : Int32) else nI (3 ^ j) / 3) → up = (if e = 1 then (1 : Int32) <<< (nI c &&& 31) else 0) → wX_takeRow_74 post (wX_takeRow_20 post (nI n) fr fk ar ac cb pl mi al hd be ab bw wk fl fa co se (k + 1)) rest wt x6 x7 x8 (nI c) e up x5 (nI n) fr fk ar ac cb pl mi al hd be ab bw wk fl fa co se := by
      intro wt up hw hu
      subst hw hu
      refine nm_e ?_
      have g93 : ∀ dn : Int32, dn = (if e = -1 then (1 : Int32) <<< (nI c &&& 31) else 0) → wX_takeRow_93 post (wX_takeRow_20 post (nI n) fr fk ar ac cb pl mi al hd be ab bw wk fl fa co se (k + 1)) rest (if nI (3 ^ j) ≤ 1 then (1 : Int32) else nI (3 ^ j) / 3) (x5 ||| (if e = 1 then (1 : Int32) <<< (nI c &&& 31) else 0)) x7 x8 (nI c) e dn x6 (nI n) fr fk ar ac cb pl mi al hd be ab bw wk fl fa co se := by
        intro dn hdn
        subst hdn
        refine nm_e (nm_e (br_c (fun q => nm_e ?_) (fun q => br_c (fun q2 => nm_e ?_) (fun q2 => br_c (fun q3 => nm_e ?_) (fun q3 => nm_e ?_)))))
        · rw [if_pos q] at IH; exact IH
        · rw [if_neg q, if_pos q2] at IH; exact IH
        · rw [if_neg q, if_neg q2, if_pos q3] at IH; exact IH
        · rw [if_neg q, if_neg q2, if_neg q3] at IH; exact IH
      exact br_c (fun q => g93 _ (if_pos q).symm) (fun q => g93 _ (if_neg q).symm)
    refine br_c (fun q => br_c (fun q2 => fin _ _ (if_pos q).symm (if_pos q2).symm) (fun q2 => fin _ _ (if_pos q).symm (if_neg q2).symm)) (fun q => ⟨by decide, br_c (fun q2 => fin _ _ (if_neg q).symm (if_pos q2).symm) (fun q2 => fin _ _ (if_neg q).symm (if_neg q2).symm)⟩)
theorem x_tk {post : SX → Prop} (h1 : 1 ≤ n) (h5 : n ≤ 5) {t : Nat} (ht : t < 3 ^ n)
    (H : post ((nI n), (nI (tkL n (t + 1)).length), fk, ar, ac, cb, (fL ((tkL n (t + 1)).map Prod.fst)), (fL ((tkL n (t + 1)).map Prod.snd)), al, hd, be, ab, bw, wk, fl, fa, co, se)) :
    wpX_takeRow post ((nI n), (nI (tkL n t).length), fk, ar, ac, cb, (fL ((tkL n t).map Prod.fst)), (fL ((tkL n t).map Prod.snd)), al, hd, be, ab, bw, wk, fl, fa, co, se) (nI t) (nI (3 ^ n) / 3) := by
  have hl := tkL_len (t := t + 1) h1 h5 ht
  rw [tkL_s] at H hl
  rw [w3i n (by omega) (by omega)]
  refine Exists.intro (n + 1) (x_tk20 h5 n 0 (n - 1) _ _ _ _ _ (by omega) (by omega) (fun s hs => ?_))
  have e : tkO n t = if s.2.2.2 = 0 then none else if s.2.2.1 = 1 then some (s.1, s.2.1) else none := by
    unfold tkO
    rw [w3i n (by omega) (by omega), hs]
    rfl
  refine ⟨fun z => ?_, fun z => ⟨fun z2 => ?_, fun z2 => ?_⟩⟩
  · rw [e, if_pos z] at H
    rw [show (none : Option (Int32 × Int32)).toList = [] from rfl, List.append_nil] at H
    exact H
  · rw [e, if_neg z, if_pos z2] at H hl
    rw [show (some (s.1, s.2.1)).toList = [(s.1, s.2.1)] from rfl, List.length_append, List.length_singleton] at H hl
    rw [List.map_append, List.map_append] at H
    refine ⟨bq_in (by omega) (by omega), ?_⟩
    rw [bq_cl (by omega), nI_1]
    have u1 := fL_upd ((tkL n t).map Prod.fst) s.1
    have u2 := fL_upd ((tkL n t).map Prod.snd) s.2.1
    rw [List.length_map] at u1 u2
    rw [u1, u2]
    exact H
  · rw [e, if_neg z, if_neg z2] at H
    rw [show (none : Option (Int32 × Int32)).toList = [] from rfl, List.append_nil] at H
    exact H
theorem x_fr24 {post : SX → Prop} (h1 : 1 ≤ n) (h5 : n ≤ 5)
    (H : post ((nI n), (nI (tb_R n)), fk, ar, ac, cb, (tP n), (tM n), al, hd, be, ab, bw, wk, fl, fa, co, se)) : ∀ (k t : Nat), t + k = 3 ^ n → wX_findRows_24 post (nI (3 ^ n)) (k + 1) (nI t) (nI n) (nI (tkL n t).length) fk ar ac cb (fL ((tkL n t).map Prod.fst)) (fL ((tkL n t).map Prod.snd)) al hd be ab bw wk fl fa co se
  | 0, t, h => by
    have b : 3 ^ n ≤ 243 := Nat.pow_le_pow_right (n := 3) (by decide) h5
    have e : t = 3 ^ n := by omega
    subst e
    refine pk_le (3 ^ n) (3 ^ n) (fun _ => ?_) (fun z => absurd z (by omega))
    rw [tkL_all h1 h5, (fL_P h1 h5).1, (fL_P h1 h5).2, show (tkT n).length = tb_R n by unfold tkT; rw [List.length_map, List.length_range]]
    exact H
  | k + 1, t, h => by
    have b : 3 ^ n ≤ 243 := Nat.pow_le_pow_right (n := 3) (by decide) h5
    refine pk_le (3 ^ n) t (fun z => absurd z (by omega)) (fun _ => ⟨by decide, x_tk h1 h5 (by omega) (nm_r (nI_1 t) ?_)⟩)
    exact x_fr24 h1 h5 H k (t + 1) (by omega)
theorem x_fr4 {post : SX → Prop} (h5 : n ≤ 5) (H : ∃ q, wX_findRows_24 post (nI (3 ^ n)) q 0 (nI n) fr fk ar ac cb pl mi al hd be ab bw wk fl fa co se) :
    ∀ (k c : Nat), c + k = n → wX_findRows_4 post (nI n) fr fk ar ac cb pl mi al hd be ab bw wk fl fa co se (k + 1) (nI (3 ^ c)) (nI c)
  | 0, c, h => by
    have e : c = n := by omega
    subst e
    exact pk_le c c (fun _ => H) (fun z => absurd z (by omega))
  | k + 1, c, h => by
    refine pk_le n c (fun z => absurd z (by omega)) (fun _ => nm_r (e' := nI (3 ^ (c + 1))) ?_ (nm_r (nI_1 c) (x_fr4 h5 H k (c + 1) (by omega))))
    rw [show (3 : Int32) = nI 3 from rfl, pk_mul, Nat.pow_succ]
theorem x_fr {post : SX → Prop} (h1 : 1 ≤ n) (h5 : n ≤ 5) (H : post ((nI n), (nI (tb_R n)), fk, ar, ac, cb, (tP n), (tM n), al, hd, be, ab, bw, wk, fl, fa, co, se)) : wpX_findRows post ((nI n), 0, fk, ar, ac, cb, (fun _ => 0), (fun _ => 0), al, hd, be, ab, bw, wk, fl, fa, co, se) := by
  have z : fL [] = fun _ => 0 := by
    funext i
    rfl
  have h := x_fr24 h1 h5 H (3 ^ n) 0 (by omega)
  have e : tkL n 0 = [] := rfl
  rw [e] at h
  rw [show ([] : List (Int32 × Int32)).map Prod.fst = [] from rfl, show ([] : List (Int32 × Int32)).map Prod.snd = [] from rfl, z] at h
  exact Exists.intro (n + 1) (x_fr4 h5 ⟨_, h⟩ n 0 (by omega))
theorem x_in128 {post : SX → Prop} (h1 : 1 ≤ n) (h5 : n ≤ 5)
    (H : post ((nI n), (nI (tb_R n)), fk, ar, ac, cb, (tP n), (tM n), (a7 25), hd, be, ab, bw, wk, fl, fa, co, se)) : ∀ (k p : Nat), p + k = 25 → wX_init_128 post (nI n) 0 fk ar ac cb (k + 1) (nI p) (fun _ => 0) (fun _ => 0) (a7 p) hd be ab bw wk fl fa co se
  | 0, p, h => by
    have e : p = 25 := by omega
    subst e
    exact pk_le 25 25 (fun _ => x_fr h1 h5 H) (fun z => absurd z (by omega))
  | k + 1, p, h => by
    refine pk_le 25 p (fun z => absurd z (by omega)) (fun hp => ⟨bq_in hp (by omega), ?_⟩)
    rw [bq_cl (by omega), a7_upd]
    exact nm_e (nm_r (nI_1 p) (x_in128 h1 h5 H k (p + 1) (by omega)))
end
section
variable {n : Nat} {dp : Int32} {al yh ys yf yo yp : Nat → Int32}
theorem y_in77 {post : SY → Prop} 
    (H : post ((nI n), dp, (a7 25), yh, ys, yf, yo, yp)) : ∀ (k p : Nat), p + k = 25 → wY_init_77 post (nI n) dp (k + 1) (nI p) (a7 p) yh ys yf yo yp
  | 0, p, h => by
    have e : p = 25 := by omega
    subst e
    exact pk_le 25 25 (fun _ => H) (fun z => absurd z (by omega))
  | k + 1, p, h => by
    refine pk_le 25 p (fun z => absurd z (by omega)) (fun hp => ⟨bq_in hp (by omega), ?_⟩)
    rw [bq_cl (by omega), a7_upd]
    exact nm_e (nm_r (nI_1 p) (y_in77 H k (p + 1) (by omega)))
end
end
section
/-! the component's tables -/
def ng (n : Nat) : List Nat → Nat
  | [] => 0
  | i :: s => nn n i + ng n s
def cw (n : Nat) (A : Nat → Nat → Bool) (m o j : Nat) : Nat := (sq n A m o).countP (fun s => ng n s == j)
def cy (n : Nat) (A : Nat → Nat → Bool) (m o j i : Nat) : Nat := (sg n A m o i).countP (fun s => ng n s == j)
theorem cw_s (n : Nat) (A : Nat → Nat → Bool) (m o j : Nat) : cw n A (m + 1) o j = sn (cy n A m o j) (tb_R n) := lr_cnt _ _ _
theorem cy_no {n : Nat} {A : Nat → Nat → Bool} {m o j i : Nat} (h : ¬ (ok n i o && A (n - 1 - m) i) = true) : cy n A m o j i = 0 := by
  unfold cy sg
  rw [if_neg h]; rfl
theorem wy_no {n : Nat} {A : Nat → Nat → Bool} {m o i : Nat} (h : ¬ (ok n i o && A (n - 1 - m) i) = true) : wy n A m o i = 0 := if_neg h
theorem wy_yes {n : Nat} {A : Nat → Nat → Bool} {m o i : Nat} (h : (ok n i o && A (n - 1 - m) i) = true) : wy n A m o i = (sq n A m (af n i o)).length := if_pos h
theorem cy_yes {n : Nat} {A : Nat → Nat → Bool} {m o j i : Nat} (h : (ok n i o && A (n - 1 - m) i) = true) : cy n A m o j i = if nn n i ≤ j then cw n A m (af n i o) (j - nn n i) else 0 := by
  unfold cy sg cw
  rw [if_pos h, List.countP_map]
  by_cases c : nn n i ≤ j
  · rw [if_pos c]
    apply List.countP_congr
    intro s _
    show (nn n i + ng n s == j) = true ↔ (ng n s == j - nn n i) = true
    rw [beq_iff_eq, beq_iff_eq]
    omega
  · rw [if_neg c, List.countP_eq_zero]
    intro s _
    show ¬ (nn n i + ng n s == j) = true
    rw [beq_iff_eq]
    omega
/-- the ways to fill the rows above row r so that a 1 stands unmatched in the columns o -/
def av (n : Nat) (A : Nat → Nat → Bool) : Nat → Nat → Nat
  | 0, o => if o = 0 then 1 else 0
  | r + 1, q => sn (fun i => sn (fun o => if ok n i o && (A r i && (af n i o == q)) then av n A r o else 0) 32) (tb_R n)
theorem nn_2 : ∀ n, n < 6 → ∀ i, i < 16 → nn n i ≤ 2 := by decide +kernel
def KN (n : Nat) (al be ab bw : Nat → Int32) : Prop :=
  (∀ r, r ≤ n → ∀ o, o < 32 → be (32 * r + o) = nI (sq n (al_row al n) (n - r) o).length) ∧
  (∀ r, r ≤ n → ∀ o, o < 32 → ab (32 * r + o) = nI (av n (al_row al n) r o)) ∧
  (∀ r, r ≤ n → ∀ o, o < 32 → ∀ j, j < 5 → bw (5 * (32 * r + o) + j) = nI (cw n (al_row al n) (n - r) o j))
def UB (n : Nat) (A : Nat → Nat → Bool) (r i o : Nat) (be B : Nat → Int32) : Prop :=
  (∀ q, q < 32 → B (32 * r + q) = if q < o then be (32 * r + q) + nI (wy n A (n - 1 - r) q i) else be (32 * r + q)) ∧ (∀ p, (p < 32 * r ∨ 32 * r + 32 ≤ p) → B p = be p)
def UW (n : Nat) (A : Nat → Nat → Bool) (r i o : Nat) (bw W : Nat → Int32) : Prop :=
  (∀ q, q < 32 → ∀ j, j < 5 → W (5 * (32 * r + q) + j) = if q < o then bw (5 * (32 * r + q) + j) + nI (cy n A (n - 1 - r) q j i) else bw (5 * (32 * r + q) + j)) ∧ (∀ p, (p < 160 * r ∨ 160 * r + 160 ≤ p) → W p = bw p)
theorem nI_z (x : Int32) : x + nI 0 = x := Int32.add_zero x
theorem UB_all {n : Nat} {A : Nat → Nat → Bool} {r i : Nat} {be : Nat → Int32} (h : ∀ q, q < 32 → wy n A (n - 1 - r) q i = 0) : UB n A r i 32 be be :=
  ⟨fun q hq => by rw [if_pos hq, h q hq, nI_z], fun _ _ => rfl⟩
theorem UW_all {n : Nat} {A : Nat → Nat → Bool} {r i : Nat} {bw : Nat → Int32} (h : ∀ q, q < 32 → ∀ j, j < 5 → cy n A (n - 1 - r) q j i = 0) : UW n A r i 32 bw bw :=
  ⟨fun q hq j hj => by rw [if_pos hq, h q hq j hj, nI_z], fun _ _ => rfl⟩
theorem UB_skip {n : Nat} {A : Nat → Nat → Bool} {r i o : Nat} {be B : Nat → Int32} (h : wy n A (n - 1 - r) o i = 0) (I : UB n A r i o be B) : UB n A r i (o + 1) be B := by
  refine ⟨fun q hq => ?_, I.2⟩
  rw [I.1 q hq]
  by_cases c : q < o
  · rw [if_pos c, if_pos (by omega)]
  · rw [if_neg c]
    by_cases d : q = o
    · subst d; rw [if_pos (by omega), h, nI_z]
    · rw [if_neg (by omega)]
theorem UW_skip {n : Nat} {A : Nat → Nat → Bool} {r i o : Nat} {bw W : Nat → Int32} (h : ∀ j, j < 5 → cy n A (n - 1 - r) o j i = 0) (I : UW n A r i o bw W) : UW n A r i (o + 1) bw W := by
  refine ⟨fun q hq j hj => ?_, I.2⟩
  rw [I.1 q hq j hj]
  by_cases c : q < o
  · rw [if_pos c, if_pos (by omega)]
  · rw [if_neg c]
    by_cases d : q = o
    · subst d; rw [if_pos (by omega), h j hj, nI_z]
    · rw [if_neg (by omega)]
section
variable {n : Nat} {fk ar ac cb : Int32} {al hd be ab bw wk fl fa co se : Nat → Int32}
theorem x_cb88 {post : SX → Prop} {J : Int32 → (Nat → Int32) → (Nat → Int32) → (Nat → Int32) → (Nat → Int32) → (Nat → Int32) → (Nat → Int32) → (Nat → Int32) → (Nat → Int32) → (Nat → Int32) → (Nat → Int32) → (Nat → Int32) → (Nat → Int32) → Prop}
    {x1 x2 x3 : Int32} {o at_ nx ls : Nat} (h1 : at_ < 192) (h2 : nx < 192) (h3 : at_ < nx) (hls : ls ≤ 2)
    (H : ∀ W : Nat → Int32, (∀ j, j < 5 → W (5 * at_ + j) = if ls ≤ j then bw (5 * at_ + j) + bw (5 * nx + (j - ls)) else bw (5 * at_ + j)) → (∀ p, (p < 5 * at_ ∨ 5 * at_ + 5 ≤ p) → W p = bw p) → J (nI (o + 1)) (tP n) (tM n) al hd be ab W wk fl fa co se) :
    ∀ (k j : Nat) (W : Nat → Int32), j + k = 5 → ls ≤ j → (∀ q, q < 5 → W (5 * at_ + q) = if ls ≤ q ∧ q < j then bw (5 * at_ + q) + bw (5 * nx + (q - ls)) else bw (5 * at_ + q)) → (∀ p, (p < 5 * at_ ∨ 5 * at_ + 5 ≤ p) → W p = bw p) →
    wX_countBelow_88 post J x1 x2 x3 (nI ls) (nI o) (nI at_) (nI nx) (nI n) (nI (tb_R n)) fk ar ac cb (k + 1) (nI j) (tP n) (tM n) al hd be ab W wk fl fa co se
  | 0, j, W, h, hj, hW, hW2 => by
    have e : j = 5 := by omega
    subst e
    refine pk_le 5 5 (fun _ => nm_r (nI_1 o) (H W (fun q hq => ?_) hW2)) (fun z => absurd z (by omega))
    rw [hW q hq]
    by_cases c : ls ≤ q
    · rw [if_pos c, if_pos ⟨c, hq⟩]
    · rw [if_neg c, if_neg (fun z => c z.1)]
  | k + 1, j, W, h, hj, hW, hW2 => by
    refine pk_le 5 j (fun z => absurd z (by omega)) (fun hj5 => ?_)
    have e1 : 5 * nI at_ + nI j = nI (5 * at_ + j) := bq_pl at_ j
    have e2 : 5 * nI nx + nI j - nI ls = nI (5 * nx + (j - ls)) := by
      rw [bq_pl, pk_sub (by omega)]
      exact congrArg nI (by omega)
    rw [e1, e2, bq_cl (by omega), bq_cl (by omega)]
    refine ⟨bq_in (by omega) (by omega), bq_in (by omega) (by omega), bq_in (by omega) (by omega), nm_e (nm_r (nI_1 j) ?_)⟩
    refine x_cb88 h1 h2 h3 hls H k (j + 1) _ (by omega) (by omega) (fun q hq => ?_) (fun p hp => ?_)
    · by_cases c : q = j
      · subst c
        rw [pk_us, hW q hq, hW2 (5 * nx + (q - ls)) (Or.inr (by omega)), if_neg (by omega), if_pos ⟨hj, by omega⟩]
      · rw [pk_un (by omega), hW q hq]
        by_cases d : ls ≤ q ∧ q < j
        · rw [if_pos d, if_pos ⟨d.1, by omega⟩]
        · rw [if_neg d, if_neg (by omega)]
    · rw [pk_un (by omega)]; exact hW2 p hp
theorem x_cb21 {post : SX → Prop} {r i : Nat} (h5 : n ≤ 5) (hr : r < n) (hi : i < tb_R n) (hA : al_row al n r i = true)
    (hB : ∀ o, o < 32 → be (32 * (r + 1) + o) = nI (sq n (al_row al n) (n - 1 - r) o).length)
    (hW : ∀ o, o < 32 → ∀ j, j < 5 → bw (5 * (32 * (r + 1) + o) + j) = nI (cw n (al_row al n) (n - 1 - r) o j))
    (H : ∀ B W : Nat → Int32, UB n (al_row al n) r i 32 be B → UW n (al_row al n) r i 32 bw W → post ((nI n), (nI (tb_R n)), fk, ar, ac, cb, (tP n), (tM n), al, hd, B, ab, W, wk, fl, fa, co, se)) :
    ∀ (k o : Nat) (B W : Nat → Int32), o + k = 32 → UB n (al_row al n) r i o be B → UW n (al_row al n) r i o bw W → wX_countBelow_21 post (nI r) (nI i) 1 (nI (nn n i)) (nI n) (nI (tb_R n)) fk ar ac cb (k + 1) (nI o) (tP n) (tM n) al hd B ab W wk fl fa co se
  | 0, o, B, W, h, hb, hw => by
    have e : o = 32 := by omega
    subst e
    exact pk_le 32 32 (fun _ => H B W hb hw) (fun z => absurd z (by omega))
  | k + 1, o, B, W, h, hb, hw => by
    have hR := tb_R16 h5
    have em : n - 1 - (n - 1 - r) = r := by omega
    refine pk_le 32 o (fun z => absurd z (by omega)) (fun ho => br_f (by decide) (x_fol h5 (by omega) ho (fun q => ?_) (fun q => ?_)))
    · have hok : (ok n i o && al_row al n (n - 1 - (n - 1 - r)) i) = true := by rw [q, em, hA]; rfl
      have haf := af_lt h5 (show i < 16 by omega) ho
      refine br_f (by decide) (nm_r (bq_32 r o) (x_aft h5 (by omega) ho ?_))
      rw [show nI r + 1 = nI (r + 1) from nI_1 r]
      refine nm_r (bq_32 (r + 1) (af n i o)) ⟨bq_in (by omega) (by omega), bq_in (by omega) (by omega), bq_in (by omega) (by omega), ?_⟩
      rw [bq_cl (by omega), bq_cl (by omega)]
      refine nm_e (Exists.intro (5 - nn n i + 1) ?_)
      have n2 := nn_2 n (by omega) i (by omega)
      refine x_cb88 (bw := W) (by omega) (by omega) (by omega) n2 (fun W' hW1 hW2 => ?_) (5 - nn n i) (nn n i) W (by omega) (Nat.le_refl _) (fun q hq => by rw [if_neg (by omega)]) (fun _ _ => rfl)
      refine x_cb21 h5 hr hi hA hB hW H k (o + 1) _ W' (by omega) ⟨fun q' hq' => ?_, fun p hp => ?_⟩ ⟨fun q' hq' j hj => ?_, fun p hp => ?_⟩
      · by_cases c : q' = o
        · subst c
          rw [pk_us, hb.1 q' hq', if_neg (by omega), if_pos (by omega), hb.2 _ (Or.inr (by omega)), hB _ haf, wy_yes hok]
        · rw [pk_un (by omega), hb.1 q' hq']
          by_cases d : q' < o
          · rw [if_pos d, if_pos (by omega)]
          · rw [if_neg d, if_neg (by omega)]
      · rw [pk_un (by omega)]; exact hb.2 p hp
      · by_cases c : q' = o
        · subst c
          rw [hW1 j hj, if_pos (show q' < q' + 1 by omega), cy_yes hok, hw.1 q' hq' j hj, if_neg (show ¬ q' < q' by omega)]
          by_cases d : nn n i ≤ j
          · rw [if_pos d, if_pos d, hw.2 _ (Or.inr (by omega)), hW _ haf _ (by omega)]
          · rw [if_neg d, if_neg d, nI_z]
        · rw [hW2 _ (by omega), hw.1 q' hq' j hj]
          by_cases d : q' < o
          · rw [if_pos d, if_pos (by omega)]
          · rw [if_neg d, if_neg (by omega)]
      · rw [hW2 _ (by omega)]; exact hw.2 p hp
    · have hok : ¬ (ok n i o && al_row al n (n - 1 - (n - 1 - r)) i) = true := by rw [q, Bool.false_and]; decide
      exact br_t rfl (nm_r (nI_1 o) (x_cb21 h5 hr hi hA hB hW H k (o + 1) B W (by omega) (UB_skip (wy_no hok) hb) (UW_skip (fun j _ => cy_no hok) hw)))
theorem x_cb {post : SX → Prop} {r i : Nat} (h5 : n ≤ 5) (hr : r < n) (hi : i < tb_R n)
    (hB : ∀ o, o < 32 → be (32 * (r + 1) + o) = nI (sq n (al_row al n) (n - 1 - r) o).length)
    (hW : ∀ o, o < 32 → ∀ j, j < 5 → bw (5 * (32 * (r + 1) + o) + j) = nI (cw n (al_row al n) (n - 1 - r) o j))
    (H : ∀ B W : Nat → Int32, UB n (al_row al n) r i 32 be B → UW n (al_row al n) r i 32 bw W → post ((nI n), (nI (tb_R n)), fk, ar, ac, cb, (tP n), (tM n), al, hd, B, ab, W, wk, fl, fa, co, se)) : wpX_countBelow post ((nI n), (nI (tb_R n)), fk, ar, ac, cb, (tP n), (tM n), al, hd, be, ab, bw, wk, fl, fa, co, se) (nI r) (nI i) := by
  have hR := tb_R16 h5
  refine x_isA (post := fun r_1 => _) h5 (by omega) (by omega) (fun hA => ?_) (fun hA => ?_)
  · refine ⟨bq_in (by omega) (by omega), x_ones h5 (by omega) (Exists.intro 33 ?_)⟩
    exact x_cb21 h5 hr hi hA hB hW H 32 0 be bw (by omega) ⟨fun q hq => by rw [if_neg (by omega)], fun _ _ => rfl⟩ ⟨fun q hq j hj => by rw [if_neg (by omega)], fun _ _ => rfl⟩
  · have em : n - 1 - (n - 1 - r) = r := by omega
    have hok : ∀ o, ¬ (ok n i o && al_row al n (n - 1 - (n - 1 - r)) i) = true := fun o => by rw [em, hA, Bool.and_false]; decide
    refine ⟨bq_in (by omega) (by omega), x_ones h5 (by omega) (Exists.intro 1 ?_)⟩
    exact br_f (by decide) (br_t rfl (H be bw (UB_all (fun q _ => wy_no (hok q))) (UW_all (fun q _ j _ => cy_no (hok q)))))
/-- one row's addition to the table from above -/
def UA (n : Nat) (A : Nat → Nat → Bool) (r i o : Nat) (ab B : Nat → Int32) : Prop :=
  (∀ q, q < 32 → B (32 * (r + 1) + q) = ab (32 * (r + 1) + q) + nI (sn (fun o => if ok n i o && (A r i && (af n i o == q)) then av n A r o else 0) o)) ∧ (∀ p, (p < 32 * (r + 1) ∨ 32 * (r + 1) + 32 ≤ p) → B p = ab p)
theorem x_ca10 {post : SX → Prop} {r i : Nat} (h5 : n ≤ 5) (hr : r < n) (hi : i < tb_R n) (hA : al_row al n r i = true)
    (hB : ∀ o, o < 32 → ab (32 * r + o) = nI (av n (al_row al n) r o))
    (H : ∀ B : Nat → Int32, UA n (al_row al n) r i 32 ab B → post ((nI n), (nI (tb_R n)), fk, ar, ac, cb, (tP n), (tM n), al, hd, be, B, bw, wk, fl, fa, co, se)) :
    ∀ (k o : Nat) (B : Nat → Int32), o + k = 32 → UA n (al_row al n) r i o ab B → wX_countAbove_10 post (nI r) (nI i) 1 (nI n) (nI (tb_R n)) fk ar ac cb (k + 1) (nI o) (tP n) (tM n) al hd be B bw wk fl fa co se
  | 0, o, B, h, hb => by
    have e : o = 32 := by omega
    subst e
    exact pk_le 32 32 (fun _ => H B hb) (fun z => absurd z (by omega))
  | k + 1, o, B, h, hb => by
    have hR := tb_R16 h5
    refine pk_le 32 o (fun z => absurd z (by omega)) (fun ho => br_f (by decide) (x_fol h5 (by omega) ho (fun q => ?_) (fun q => ?_)))
    · have haf := af_lt h5 (show i < 16 by omega) ho
      refine br_f (by decide) (x_aft h5 (by omega) ho ?_)
      rw [show nI r + 1 = nI (r + 1) from nI_1 r, bq_32, bq_32, bq_cl (by omega), bq_cl (by omega)]
      refine ⟨bq_in (by omega) (by omega), bq_in (by omega) (by omega), bq_in (by omega) (by omega), nm_e (nm_r (nI_1 o) ?_)⟩
      refine x_ca10 h5 hr hi hA hB H k (o + 1) _ (by omega) ⟨fun q' hq' => ?_, fun p hp => ?_⟩
      · show _ = ab (32 * (r + 1) + q') + nI (sn (fun o => if ok n i o && (al_row al n r i && (af n i o == q')) then av n (al_row al n) r o else 0) o + if ok n i o && (al_row al n r i && (af n i o == q')) then av n (al_row al n) r o else 0)
        rw [← nI_add, ← Int32.add_assoc, ← hb.1 q' hq', q, hA]
        by_cases c : af n i o = q'
        · subst c
          rw [pk_us, hb.2 (32 * r + o) (Or.inl (by omega)), hB o ho, if_pos (by simp)]
        · rw [pk_un (by omega), if_neg (by simp [c]), nI_z]
      · rw [pk_un (by omega)]; exact hb.2 p hp
    · refine br_t rfl (nm_r (nI_1 o) (x_ca10 h5 hr hi hA hB H k (o + 1) B (by omega) ⟨fun q' hq' => ?_, hb.2⟩))
      show _ = ab (32 * (r + 1) + q') + nI (sn (fun o => if ok n i o && (al_row al n r i && (af n i o == q')) then av n (al_row al n) r o else 0) o + if ok n i o && (al_row al n r i && (af n i o == q')) then av n (al_row al n) r o else 0)
      rw [q, if_neg (by simp), Nat.add_zero]
      exact hb.1 q' hq'
theorem x_ca {post : SX → Prop} {r i : Nat} (h5 : n ≤ 5) (hr : r < n) (hi : i < tb_R n)
    (hB : ∀ o, o < 32 → ab (32 * r + o) = nI (av n (al_row al n) r o))
    (H : ∀ B : Nat → Int32, UA n (al_row al n) r i 32 ab B → post ((nI n), (nI (tb_R n)), fk, ar, ac, cb, (tP n), (tM n), al, hd, be, B, bw, wk, fl, fa, co, se)) : wpX_countAbove post ((nI n), (nI (tb_R n)), fk, ar, ac, cb, (tP n), (tM n), al, hd, be, ab, bw, wk, fl, fa, co, se) (nI r) (nI i) := by
  have hR := tb_R16 h5
  refine x_isA (post := fun r_1 => _) h5 (by omega) (by omega) (fun hA => ?_) (fun hA => ?_)
  · refine Exists.intro 33 (x_ca10 h5 hr hi hA hB H 32 0 ab (by omega) ⟨fun q hq => ?_, fun _ _ => rfl⟩)
    exact (nI_z _).symm
  · refine Exists.intro 1 (br_f (by decide) (br_t rfl (H ab ⟨fun q hq => ?_, fun _ _ => rfl⟩)))
    rw [sn_zero 32 (fun o _ => by rw [hA]; simp), nI_z]
/-! the phases -/
def BC (n : Nat) (A : Nat → Nat → Bool) (r : Nat) (B W : Nat → Int32) : Prop :=
  (∀ q, r ≤ q → q ≤ n → ∀ o, o < 32 → B (32 * q + o) = nI (sq n A (n - q) o).length) ∧ (∀ p, p < 32 * r → B p = 0) ∧
  (∀ q, r ≤ q → q ≤ n → ∀ o, o < 32 → ∀ j, j < 5 → W (5 * (32 * q + o) + j) = nI (cw n A (n - q) o j)) ∧ (∀ p, p < 160 * r → W p = 0)
def BR (n : Nat) (A : Nat → Nat → Bool) (r i : Nat) (B W : Nat → Int32) : Prop :=
  ((∀ q, r < q → q ≤ n → ∀ o, o < 32 → B (32 * q + o) = nI (sq n A (n - q) o).length) ∧ (∀ p, p < 32 * r → B p = 0) ∧
  (∀ q, r < q → q ≤ n → ∀ o, o < 32 → ∀ j, j < 5 → W (5 * (32 * q + o) + j) = nI (cw n A (n - q) o j)) ∧ (∀ p, p < 160 * r → W p = 0)) ∧
  (∀ o, o < 32 → B (32 * r + o) = nI (sn (wy n A (n - 1 - r) o) i)) ∧ (∀ o, o < 32 → ∀ j, j < 5 → W (5 * (32 * r + o) + j) = nI (sn (cy n A (n - 1 - r) o j) i))
theorem BR_0 {A : Nat → Nat → Bool} {r : Nat} {B W : Nat → Int32} (h : BC n A (r + 1) B W) : BR n A r 0 B W :=
  ⟨⟨fun q hq => h.1 q hq, fun p hp => h.2.1 p (by omega), fun q hq => h.2.2.1 q hq, fun p hp => h.2.2.2 p (by omega)⟩, fun o ho => h.2.1 _ (by omega), fun o ho j hj => h.2.2.2 _ (by omega)⟩
theorem BR_R {A : Nat → Nat → Bool} {r : Nat} {B W : Nat → Int32} (hr : r < n) (h : BR n A r (tb_R n) B W) : BC n A r B W := by
  have e : n - r = (n - 1 - r) + 1 := by omega
  refine ⟨fun q hq hqn o ho => ?_, h.1.2.1, fun q hq hqn o ho j hj => ?_, h.1.2.2.2⟩
  · by_cases c : q = r
    · subst c; rw [h.2.1 o ho, e, sq_len]
    · exact h.1.1 q (by omega) hqn o ho
  · by_cases c : q = r
    · subst c; rw [h.2.2 o ho j hj, e, cw_s]
    · exact h.1.2.2.1 q (by omega) hqn o ho j hj
theorem BR_s {A : Nat → Nat → Bool} {r i : Nat} {B W B' W' : Nat → Int32} (h : BR n A r i B W) (hb : UB n A r i 32 B B') (hw : UW n A r i 32 W W') : BR n A r (i + 1) B' W' := by
  refine ⟨⟨fun q hq hqn o ho => ?_, fun p hp => ?_, fun q hq hqn o ho j hj => ?_, fun p hp => ?_⟩, fun o ho => ?_, fun o ho j hj => ?_⟩
  · rw [hb.2 _ (Or.inr (by omega))]; exact h.1.1 q hq hqn o ho
  · rw [hb.2 _ (Or.inl hp)]; exact h.1.2.1 p hp
  · rw [hw.2 _ (Or.inr (by omega))]; exact h.1.2.2.1 q hq hqn o ho j hj
  · rw [hw.2 _ (Or.inl hp)]; exact h.1.2.2.2 p hp
  · rw [hb.1 o ho, if_pos ho, h.2.1 o ho, nI_add]; rfl
  · rw [hw.1 o ho j hj, if_pos ho, h.2.2 o ho j hj, nI_add]; rfl
theorem x_f117 {post : SX → Prop} {J : Int32 → Int32 → Int32 → Int32 → Int32 → Int32 → Int32 → (Nat → Int32) → (Nat → Int32) → (Nat → Int32) → (Nat → Int32) → (Nat → Int32) → (Nat → Int32) → (Nat → Int32) → (Nat → Int32) → (Nat → Int32) → (Nat → Int32) → (Nat → Int32) → (Nat → Int32) → Prop}
    {r : Nat} (h5 : n ≤ 5) (hr : r < n) (H : ∀ B W : Nat → Int32, BC n (al_row al n) r B W → J (nI r + (-1)) (nI n) (nI (tb_R n)) fk ar ac cb (tP n) (tM n) al hd B ab W wk fl fa co se) :
    ∀ (k i : Nat) (B W : Nat → Int32), i + k = tb_R n → BR n (al_row al n) r i B W → wX_find_117 post J (nI r) (k + 1) (nI i) (nI n) (nI (tb_R n)) fk ar ac cb (tP n) (tM n) al hd B ab W wk fl fa co se
  | 0, i, B, W, h, I => by
    have hR := tb_R16 h5
    have e : i = tb_R n := by omega
    subst e
    exact pk_le (tb_R n) (tb_R n) (fun _ => nm_e (H B W (BR_R hr I))) (fun z => absurd z (by omega))
  | k + 1, i, B, W, h, I => by
    have hR := tb_R16 h5
    refine pk_le (tb_R n) i (fun z => absurd z (by omega)) (fun hi => x_cb h5 hr hi (fun o ho => ?_) (fun o ho j hj => ?_) (fun B' W' hb hw => nm_r (nI_1 i) (x_f117 h5 hr H k (i + 1) B' W' (by omega) (BR_s I hb hw))))
    · rw [I.1.1 (r + 1) (by omega) (by omega) o ho, show n - (r + 1) = n - 1 - r by omega]
    · rw [I.1.2.2.1 (r + 1) (by omega) (by omega) o ho j hj, show n - (r + 1) = n - 1 - r by omega]
theorem x_f111 {post : SX → Prop} (h5 : n ≤ 5) (H : ∀ B W : Nat → Int32, BC n (al_row al n) 0 B W → ∃ q, wX_find_145 post q 0 (nI n) (nI (tb_R n)) fk ar ac cb (tP n) (tM n) al hd B ab W wk fl fa co se) :
    ∀ (r : Nat) (B W : Nat → Int32), r ≤ n → BC n (al_row al n) r B W → wX_find_111 post (r + 1) (iz_n ((r : Int) - 1)) (nI n) (nI (tb_R n)) fk ar ac cb (tP n) (tM n) al hd B ab W wk fl fa co se
  | 0, B, W, h, I => br_t (by decide) (H B W I)
  | r + 1, B, W, h, I => by
    have e : iz_n (((r + 1 : Nat) : Int) - 1) = nI r := by
      rw [← iz_nat]; exact congrArg iz_n (by omega)
    rw [e]
    refine br_f (nI_pos (by omega)) (Exists.intro (tb_R n + 1) (x_f117 h5 (by omega) (fun B' W' I' => ?_) (tb_R n) 0 B W (by omega) (BR_0 I)))
    have e2 : nI r + (-1) = iz_n ((r : Int) - 1) := by
      rw [← iz_nat, show (-1 : Int32) = iz_n (-1) from rfl, iz_add]
      rfl
    rw [e2]
    exact x_f111 h5 H r B' W' (by omega) I'
def AC (n : Nat) (A : Nat → Nat → Bool) (r : Nat) (B : Nat → Int32) : Prop :=
  (∀ q, q ≤ r → ∀ o, o < 32 → B (32 * q + o) = nI (av n A q o)) ∧ (∀ p, 32 * (r + 1) ≤ p → p < 192 → B p = 0)
def AR (n : Nat) (A : Nat → Nat → Bool) (r i : Nat) (B : Nat → Int32) : Prop :=
  ((∀ q, q ≤ r → ∀ o, o < 32 → B (32 * q + o) = nI (av n A q o)) ∧ (∀ p, 32 * (r + 2) ≤ p → p < 192 → B p = 0)) ∧
  (∀ q, q < 32 → B (32 * (r + 1) + q) = nI (sn (fun i => sn (fun o => if ok n i o && (A r i && (af n i o == q)) then av n A r o else 0) 32) i))
theorem x_f155 {post : SX → Prop} {J : Int32 → Int32 → Int32 → Int32 → Int32 → Int32 → Int32 → (Nat → Int32) → (Nat → Int32) → (Nat → Int32) → (Nat → Int32) → (Nat → Int32) → (Nat → Int32) → (Nat → Int32) → (Nat → Int32) → (Nat → Int32) → (Nat → Int32) → (Nat → Int32) → (Nat → Int32) → Prop}
    {r : Nat} (h5 : n ≤ 5) (hr : r < n) (H : ∀ B : Nat → Int32, AC n (al_row al n) (r + 1) B → J (nI (r + 1)) (nI n) (nI (tb_R n)) fk ar ac cb (tP n) (tM n) al hd be B bw wk fl fa co se) :
    ∀ (k i : Nat) (B : Nat → Int32), i + k = tb_R n → AR n (al_row al n) r i B → wX_find_155 post J (nI r) (k + 1) (nI i) (nI n) (nI (tb_R n)) fk ar ac cb (tP n) (tM n) al hd be B bw wk fl fa co se
  | 0, i, B, h, I => by
    have hR := tb_R16 h5
    have e : i = tb_R n := by omega
    subst e
    refine pk_le (tb_R n) (tb_R n) (fun _ => nm_r (nI_1 r) (H B ⟨fun q hq o ho => ?_, I.1.2⟩)) (fun z => absurd z (by omega))
    by_cases c : q = r + 1
    · subst c; exact I.2 o ho
    · exact I.1.1 q (by omega) o ho
  | k + 1, i, B, h, I => by
    have hR := tb_R16 h5
    refine pk_le (tb_R n) i (fun z => absurd z (by omega)) (fun hi => x_ca h5 hr hi (fun o ho => I.1.1 r (Nat.le_refl _) o ho) (fun B' hb => nm_r (nI_1 i) (x_f155 h5 hr H k (i + 1) B' (by omega) ⟨⟨fun q hq o ho => ?_, fun p hp hp2 => ?_⟩, fun q hq => ?_⟩)))
    · rw [hb.2 _ (Or.inl (by omega))]; exact I.1.1 q hq o ho
    · rw [hb.2 _ (Or.inr (by omega))]; exact I.1.2 p hp hp2
    · rw [hb.1 q hq, I.2 q hq, nI_add]; rfl
theorem x_f145 {post : SX → Prop} (h5 : n ≤ 5) (H : ∀ B : Nat → Int32, AC n (al_row al n) n B → post ((nI n), (nI (tb_R n)), fk, ar, ac, cb, (tP n), (tM n), al, hd, be, B, bw, wk, fl, fa, co, se)) :
    ∀ (k r : Nat) (B : Nat → Int32), r + k = n → AC n (al_row al n) r B → wX_find_145 post (k + 1) (nI r) (nI n) (nI (tb_R n)) fk ar ac cb (tP n) (tM n) al hd be B bw wk fl fa co se
  | 0, r, B, h, I => by
    have e : r = n := by omega
    subst e
    exact pk_le r r (fun _ => H B I) (fun z => absurd z (by omega))
  | k + 1, r, B, h, I => by
    refine pk_le n r (fun z => absurd z (by omega)) (fun hr => Exists.intro (tb_R n + 1) (x_f155 h5 hr (fun B' I' => x_f145 h5 H k (r + 1) B' (by omega) I') (tb_R n) 0 B (by omega) ⟨⟨I.1, fun p hp hp2 => I.2 p (by omega) hp2⟩, fun q hq => I.2 _ (by omega) (by omega)⟩))
theorem last_n : ∀ n, n < 6 → 0 < n → (32 * nI n) + ((1 : Int32) <<< (nI n &&& 31)) - 1 = nI (32 * n + (2 ^ n - 1)) := by decide +kernel
theorem pow_n {n : Nat} (h5 : n ≤ 5) : 0 < 2 ^ n ∧ 2 ^ n ≤ 32 := ⟨Nat.two_pow_pos n, Nat.pow_le_pow_right (n := 2) (by decide) h5⟩
theorem x_f44 {post : SX → Prop} (h1 : 1 ≤ n) (h5 : n ≤ 5) {B C : Nat → Int32} (hB : ∀ p, p < 192 → B p = 0) (hC : ∀ p, p < 192 → C p = 0)
    (H : ∀ be' ab' bw' : Nat → Int32, KN n al be' ab' bw' → post ((nI n), (nI (tb_R n)), fk, ar, ac, cb, (tP n), (tM n), al, hd, be', ab', bw', wk, fl, fa, co, se)) :
    ∀ (k p : Nat) (W : Nat → Int32), p + k = 960 → (∀ q, q < p → W q = 0) → wX_find_44 post (nI n) (nI (tb_R n)) fk ar ac cb (k + 1) (nI p) (tP n) (tM n) al hd B C W wk fl fa co se
  | 0, p, W, h, hW => by
    have e : p = 960 := by omega
    subst e
    have p2 := pow_n h5
    refine pk_le 960 960 (fun _ => nm_r (last_n n (by omega) (by omega)) ⟨bq_in (by omega) (by omega), ?_⟩) (fun z => absurd z (by omega))
    rw [bq_cl (by omega)]
    refine nm_e ?_
    rw [show (5 : Int32) = nI 5 from rfl, pk_mul, nI_clamp (by omega)]
    refine ⟨vp_in_nI (by omega) (by omega), nm_e (nm_e (nm_r (e' := iz_n ((n : Int) - 1)) ?_ (Exists.intro (n + 1) ?_)))⟩
    · rw [← iz_nat, show (1 : Int32) = iz_n 1 from rfl, iz_sub]
    · refine x_f111 h5 (fun B' W' I => ⟨n + 1, x_f145 h5 (fun C' I' => ?_) n 0 _ (by omega) ⟨fun q hq o ho => ?_, fun p hp hp2 => ?_⟩⟩) n _ _ (Nat.le_refl _) ⟨fun q hq hqn o ho => ?_, fun p hp => ?_, fun q hq hqn o ho j hj => ?_, fun p hp => ?_⟩
      · exact H B' C' W' ⟨fun r hr o ho => I.1 r (Nat.zero_le _) hr o ho, I'.1, fun r hr o ho j hj => I.2.2.1 r (Nat.zero_le _) hr o ho j hj⟩
      · have e : q = 0 := by omega
        subst e
        show upd C 0 1 (32 * 0 + o) = nI (if o = 0 then 1 else 0)
        by_cases c : o = 0
        · subst c; rw [if_pos rfl]; exact pk_us
        · rw [if_neg c, pk_un (by omega)]; exact hC _ (by omega)
      · rw [pk_un (by omega)]; exact hC p hp2
      · have e : q = n := by omega
        subst e
        rw [Nat.sub_self]
        show _ = nI (if o = 2 ^ q - 1 then [[]] else ([] : List (List Nat))).length
        by_cases c : o = 2 ^ q - 1
        · subst c; rw [if_pos rfl, pk_us]; rfl
        · rw [if_neg c, pk_un (by omega)]; exact hB _ (by omega)
      · rw [pk_un (by omega)]; exact hB p (by omega)
      · have e : q = n := by omega
        subst e
        rw [Nat.sub_self]
        show _ = nI ((if o = 2 ^ q - 1 then [[]] else ([] : List (List Nat))).countP (fun s => ng q s == j))
        by_cases c : o = 2 ^ q - 1
        · subst c
          rw [if_pos rfl]
          by_cases d : j = 0
          · subst d; rw [Nat.add_zero, pk_us]; rfl
          · rw [pk_un (by omega), hW _ (by omega)]
            have d' : (0 == j) = false := beq_eq_false_iff_ne.mpr (fun z => d z.symm)
            show (0 : Int32) = nI (List.countP (fun s => ng q s == j) [[]])
            rw [List.countP_cons]
            show (0 : Int32) = nI (0 + if (0 == j) = true then 1 else 0)
            rw [d']; rfl
        · rw [if_neg c, pk_un (by omega)]; exact hW _ (by omega)
      · rw [pk_un (by omega)]; exact hW p (by omega)
  | k + 1, p, W, h, hW => by
    refine pk_le 960 p (fun z => absurd z (by omega)) (fun hp => ⟨bq_in hp (by omega), ?_⟩)
    rw [bq_cl (by omega)]
    refine nm_e (nm_r (nI_1 p) (x_f44 h1 h5 hB hC H k (p + 1) _ (by omega) (fun q hq => ?_)))
    by_cases c : q = p
    · subst c; exact pk_us
    · rw [pk_un c]; exact hW q (by omega)
theorem x_f15 {post : SX → Prop} (h1 : 1 ≤ n) (h5 : n ≤ 5)
    (H : ∀ be' ab' bw' : Nat → Int32, KN n al be' ab' bw' → post ((nI n), (nI (tb_R n)), fk, ar, ac, cb, (tP n), (tM n), al, hd, be', ab', bw', wk, fl, fa, co, se)) :
    ∀ (k p : Nat) (B C : Nat → Int32), p + k = 192 → (∀ q, q < p → B q = 0) → (∀ q, q < p → C q = 0) → wX_find_15 post (nI n) (nI (tb_R n)) fk ar ac cb (k + 1) (nI p) (tP n) (tM n) al hd B C bw wk fl fa co se
  | 0, p, B, C, h, hB, hC => by
    have e : p = 192 := by omega
    subst e
    exact pk_le 192 192 (fun _ => ⟨961, x_f44 h1 h5 hB hC H 960 0 bw (by omega) (fun q hq => absurd hq (by omega))⟩) (fun z => absurd z (by omega))
  | k + 1, p, B, C, h, hB, hC => by
    refine pk_le 192 p (fun z => absurd z (by omega)) (fun hp => ⟨bq_in hp (by omega), ?_⟩)
    rw [bq_cl (by omega)]
    refine nm_e ⟨bq_in hp (by omega), nm_e (nm_r (nI_1 p) (x_f15 h1 h5 H k (p + 1) _ _ (by omega) (fun q hq => ?_) (fun q hq => ?_)))⟩
    · by_cases c : q = p
      · subst c; exact pk_us
      · rw [pk_un c]; exact hB q (by omega)
    · by_cases c : q = p
      · subst c; exact pk_us
      · rw [pk_un c]; exact hC q (by omega)
/-- the tables stand, or aren't known to -/
theorem x_find {post : SX → Prop} (h1 : 1 ≤ n) (h5 : n ≤ 5) (hK : fk = 0 ∨ KN n al be ab bw)
    (H : ∀ (fk' : Int32) (be' ab' bw' : Nat → Int32), KN n al be' ab' bw' → post ((nI n), (nI (tb_R n)), fk', ar, ac, cb, (tP n), (tM n), al, hd, be', ab', bw', wk, fl, fa, co, se)) : wpX_find post ((nI n), (nI (tb_R n)), fk, ar, ac, cb, (tP n), (tM n), al, hd, be, ab, bw, wk, fl, fa, co, se) := by
  refine br_c (fun z => ?_) (fun z => ?_)
  · exact Exists.intro 193 (x_f15 h1 h5 (fun b a w hk => H 1 b a w hk) 192 0 be ab (by omega) (fun q hq => absurd hq (by omega)) (fun q hq => absurd hq (by omega)))
  · exact H fk be ab bw (hK.resolve_left z)
end
end
section
/-! the component lays square number k down -/
def mt (n : Nat) (s : List Nat) (r c : Nat) : Int := en n (s.getD r 0) c
def kth (n : Nat) (al : Nat → Int32) (p : Int32) : Option (List Nat) := if p < 0 then none else (sq n (al_row al n) n 0)[p.toNatClampNeg]?
/-- sums from the left and from above, of the places before (r, c) -/
def SU (n : Nat) (M : Nat → Nat → Int) (r c : Nat) (FL FA : Nat → Int32) : Prop :=
  ∀ r' c', c' < n → (r' < r ∨ (r' = r ∧ c' < c)) → FL (5 * r' + c') = iz_n (si (M r') (c' + 1)) ∧ FA (5 * r' + c') = iz_n (si (fun k => M k c') (r' + 1))
section
variable {n : Nat} {fk ar ac cb : Int32} {al hd be ab bw wk fl fa co se : Nat → Int32}
theorem x_way {post : Int32 → Prop} {r i o : Nat} (h5 : n ≤ 5) (hr : r < n) (hi : i < tb_R n) (ho : o < 32) (hK : KN n al be ab bw)
    (H : post (nI (wy n (al_row al n) (n - 1 - r) o i))) : wpX_waysWith post ((nI n), (nI (tb_R n)), fk, ar, ac, cb, (tP n), (tM n), al, hd, be, ab, bw, wk, fl, fa, co, se) (nI r) (nI i) (nI o) := by
  have hR := tb_R16 h5
  have em : n - 1 - (n - 1 - r) = r := by omega
  unfold wpX_waysWith
  dsimp only
  refine x_fol h5 (show i < 16 by omega) ho (fun q => ?_) (fun q => ?_)
  rotate_left
  · refine br_t rfl ?_
    rw [wy_no (by rw [q, Bool.false_and]; decide)] at H
    exact H
  refine br_f (by decide) ?_
  refine x_isA h5 (by omega) (by omega) (fun a => br_f (by decide) ?_) (fun a => br_t rfl ?_)
  rotate_left
  · rw [wy_no (by rw [em, a, Bool.and_false]; decide)] at H
    exact H
  refine x_aft h5 (by omega) ho ?_
  · have haf := af_lt h5 (show i < 16 by omega) ho
    rw [show nI r + 1 = nI (r + 1) from nI_1 r, bq_32, bq_cl (by omega)]
    refine ⟨bq_in (by omega) (by omega), ?_⟩
    rw [hK.1 (r + 1) (by omega) _ haf, show n - (r + 1) = n - 1 - r by omega]
    rw [wy_yes (by rw [q, em, a]; rfl)] at H
    exact H
theorem x_lr2 {post : SX → Prop} {r i : Nat} (h5 : n ≤ 5) (hr : r < n) (hi : i < 16)
    (H : ∀ W : Nat → Int32, (∀ c, c < n → W (5 * r + c) = iz_n (en n i c)) → (∀ p, (p < 5 * r ∨ 5 * r + 5 ≤ p) → W p = wk p) → post ((nI n), (nI (tb_R n)), fk, ar, ac, cb, (tP n), (tM n), al, hd, be, ab, bw, W, fl, fa, co, se)) :
    ∀ (k c : Nat) (W : Nat → Int32), c + k = n → (∀ q, q < c → W (5 * r + q) = iz_n (en n i q)) → (∀ p, (p < 5 * r ∨ 5 * r + 5 ≤ p) → W p = wk p) → wX_layRow_2 post (nI r) (nI i) (nI n) (nI (tb_R n)) fk ar ac cb (k + 1) (nI c) (tP n) (tM n) al hd be ab bw W fl fa co se
  | 0, c, W, h, h1, h2 => by
    have e : c = n := by omega
    subst e
    exact pk_le c c (fun _ => H W h1 h2) (fun z => absurd z (by omega))
  | k + 1, c, W, h, h1, h2 => by
    refine pk_le n c (fun z => absurd z (by omega)) (fun hc => x_pl ⟨bq_in hi (by omega), bq_in hi (by omega), x_en h5 hi (by omega) ?_⟩)
    rw [bq_cl (by omega)]
    refine ⟨bq_in (by omega) (by omega), nm_e (nm_r (nI_1 c) (x_lr2 h5 hr hi H k (c + 1) _ (by omega) (fun q hq => ?_) (fun p hp => ?_)))⟩
    · by_cases d : q = c
      · subst d; exact pk_us
      · rw [pk_un (by omega)]; exact h1 q (by omega)
    · rw [pk_un (by omega)]; exact h2 p hp
theorem x_layR {post : SX → Prop} {r i : Nat} (h5 : n ≤ 5) (hr : r < n) (hi : i < 16)
    (H : ∀ W : Nat → Int32, (∀ c, c < n → W (5 * r + c) = iz_n (en n i c)) → (∀ p, (p < 5 * r ∨ 5 * r + 5 ≤ p) → W p = wk p) → post ((nI n), (nI (tb_R n)), fk, ar, ac, cb, (tP n), (tM n), al, hd, be, ab, bw, W, fl, fa, co, se)) : wpX_layRow post ((nI n), (nI (tb_R n)), fk, ar, ac, cb, (tP n), (tM n), al, hd, be, ab, bw, wk, fl, fa, co, se) (nI r) (nI i) :=
  Exists.intro (n + 1) (x_lr2 h5 hr hi H n 0 wk (by omega) (fun q hq => absurd hq (by omega)) (fun _ _ => rfl))
theorem x_su53 {post : SX → Prop} {J2 J12 : Int32 → (Nat → Int32) → (Nat → Int32) → (Nat → Int32) → (Nat → Int32) → (Nat → Int32) → (Nat → Int32) → (Nat → Int32) → (Nat → Int32) → (Nat → Int32) → (Nat → Int32) → (Nat → Int32) → (Nat → Int32) → Prop}
    {M : Nat → Nat → Int} {r c : Nat} {FL FA : Nat → Int32} {z0 : Int32} (h5 : n ≤ 5) (hr : r < n) (hc : c < n) (hw : wk (5 * r + c) = iz_n (M r c)) (hz : z0 = iz_n (si (M r) c)) (I : SU n M r c FL FA)
    (H : ∀ FL' FA' : Nat → Int32, SU n M r (c + 1) FL' FA' → J12 (nI (c + 1)) (tP n) (tM n) al hd be ab bw wk FL' FA' co se) :
    wX_sumUp_53 post J2 J12 (nI r) (nI c) (nI (5 * r + c)) z0 (wk (5 * r + c)) (nI (5 * r + c)) (nI n) (nI (tb_R n)) fk ar ac cb (tP n) (tM n) al hd be ab bw wk FL FA co se := by
  subst hz
  refine And.intro (bq_in (by omega) (by omega)) ?_
  rw [bq_cl (by omega), hw, iz_add]
  have fin : ∀ FL' FA' : Nat → Int32, FL' = upd FL (5 * r + c) (iz_n (M r c + si (M r) c)) → FA' = upd FA (5 * r + c) (iz_n (si (fun k => M k c) (r + 1))) → SU n M r (c + 1) FL' FA' := by
    intro FL' FA' e1 e2 r' c' hc' h
    subst e1 e2
    by_cases d : r' = r ∧ c' = c
    · obtain ⟨rfl, rfl⟩ := d
      rw [pk_us, pk_us, Int.add_comm]
      exact ⟨rfl, rfl⟩
    · rw [pk_un (by omega), pk_un (by omega)]
      exact I r' c' hc' (by omega)
  refine nm_e ⟨bq_in (by omega) (by omega), pk_le r 0 (fun hr0 => ?_) (fun hr0 => ?_)⟩
  · refine ⟨bq_in (by omega) (by omega), ?_⟩
    rw [show (0 : Int32) = iz_n 0 from rfl, iz_add]
    refine nm_e (nm_r (nI_1 c) (H _ _ (fin _ _ rfl ?_)))
    have e : r = 0 := by omega
    subst e
    have e2 : si (fun k => M k c) (0 + 1) = M 0 c + 0 := by
      show (0 : Int) + M 0 c = _
      omega
    rw [e2]
  · have e5 : nI (5 * r + c) - 5 = nI (5 * (r - 1) + c) := by
      rw [show (5 : Int32) = nI 5 from rfl, pk_sub (by omega)]
      exact congrArg nI (by omega)
    rw [e5, bq_cl (by omega), (I (r - 1) c hc (Or.inl (by omega))).2, iz_add]
    refine ⟨bq_in (by omega) (by omega), bq_in (by omega) (by omega), nm_e (nm_r (nI_1 c) (H _ _ (fin _ _ rfl ?_)))⟩
    obtain ⟨q, rfl⟩ : ∃ q, r = q + 1 := ⟨r - 1, by omega⟩
    have e2 : si (fun k => M k c) (q + 1 + 1) = M (q + 1) c + si (fun k => M k c) (q + 1 - 1 + 1) := by
      show si (fun k => M k c) (q + 1) + M (q + 1) c = _
      rw [Nat.add_sub_cancel]
      omega
    rw [e2]
theorem x_su12 {post : SX → Prop} {J2 : Int32 → (Nat → Int32) → (Nat → Int32) → (Nat → Int32) → (Nat → Int32) → (Nat → Int32) → (Nat → Int32) → (Nat → Int32) → (Nat → Int32) → (Nat → Int32) → (Nat → Int32) → (Nat → Int32) → (Nat → Int32) → Prop}
    {M : Nat → Nat → Int} {r : Nat} (h5 : n ≤ 5) (hr : r < n) (hw : ∀ c, c < n → wk (5 * r + c) = iz_n (M r c))
    (H : ∀ FL FA : Nat → Int32, SU n M r n FL FA → J2 (nI (r + 1)) (tP n) (tM n) al hd be ab bw wk FL FA co se) :
    ∀ (k c : Nat) (FL FA : Nat → Int32), c + k = n → SU n M r c FL FA → wX_sumUp_12 post J2 (nI r) (nI n) (nI (tb_R n)) fk ar ac cb (k + 1) (nI c) (tP n) (tM n) al hd be ab bw wk FL FA co se
  | 0, c, FL, FA, h, I => by
    have e : c = n := by omega
    subst e
    exact pk_le c c (fun _ => nm_r (nI_1 r) (H FL FA I)) (fun z => absurd z (by omega))
  | k + 1, c, FL, FA, h, I => by
    refine pk_le n c (fun z => absurd z (by omega)) (fun hc => x_pl ?_)
    rw [bq_cl (by omega)]
    refine ⟨bq_in (by omega) (by omega), pk_le c 0 (fun hc0 => ?_) (fun hc0 => ?_)⟩
    · have e : c = 0 := by omega
      subst e
      exact x_su53 h5 hr hc (hw 0 hc) rfl I (fun FL' FA' I' => x_su12 h5 hr hw H k (0 + 1) FL' FA' (by omega) I')
    · have e1 : nI (5 * r + c) - 1 = nI (5 * r + (c - 1)) := by
        rw [show (1 : Int32) = nI 1 from rfl, pk_sub (by omega)]
        exact congrArg nI (by omega)
      rw [e1, bq_cl (by omega)]
      refine ⟨bq_in (by omega) (by omega), x_su53 h5 hr hc (hw c hc) ?_ I (fun FL' FA' I' => x_su12 h5 hr hw H k (c + 1) FL' FA' (by omega) I')⟩
      rw [(I r (c - 1) (by omega) (Or.inr ⟨rfl, by omega⟩)).1, show c - 1 + 1 = c by omega]
theorem x_su2 {post : SX → Prop} {M : Nat → Nat → Int} (h5 : n ≤ 5) (hw : ∀ r, r < n → ∀ c, c < n → wk (5 * r + c) = iz_n (M r c))
    (H : ∀ FL FA : Nat → Int32, SU n M n 0 FL FA → post ((nI n), (nI (tb_R n)), fk, ar, ac, cb, (tP n), (tM n), al, hd, be, ab, bw, wk, FL, FA, co, se)) :
    ∀ (k r : Nat) (FL FA : Nat → Int32), r + k = n → SU n M r 0 FL FA → wX_sumUp_2 post (nI n) (nI (tb_R n)) fk ar ac cb (k + 1) (nI r) (tP n) (tM n) al hd be ab bw wk FL FA co se
  | 0, r, FL, FA, h, I => by
    have e : r = n := by omega
    subst e
    exact pk_le r r (fun _ => H FL FA I) (fun z => absurd z (by omega))
  | k + 1, r, FL, FA, h, I => by
    refine pk_le n r (fun z => absurd z (by omega)) (fun hr => Exists.intro (n + 1) (x_su12 h5 hr (hw r hr) (fun FL' FA' I' => x_su2 h5 hw H k (r + 1) FL' FA' (by omega) (fun r' c' hc' hh => I' r' c' hc' (by omega))) n 0 FL FA (by omega) I))
theorem x_sum {post : SX → Prop} {M : Nat → Nat → Int} (h5 : n ≤ 5) (hw : ∀ r, r < n → ∀ c, c < n → wk (5 * r + c) = iz_n (M r c))
    (H : ∀ FL FA : Nat → Int32, SU n M n 0 FL FA → post ((nI n), (nI (tb_R n)), fk, ar, ac, cb, (tP n), (tM n), al, hd, be, ab, bw, wk, FL, FA, co, se)) : wpX_sumUp post ((nI n), (nI (tb_R n)), fk, ar, ac, cb, (tP n), (tM n), al, hd, be, ab, bw, wk, fl, fa, co, se) :=
  Exists.intro (n + 1) (x_su2 h5 hw H n 0 fl fa (by omega) (fun r' c' hc' hh => absurd hh (by omega)))
theorem x_l42 {post : Int32 → SX → Prop} {J : Int32 → Int32 → Int32 → Int32 → Int32 → Int32 → Int32 → Int32 → Int32 → (Nat → Int32) → (Nat → Int32) → (Nat → Int32) → (Nat → Int32) → (Nat → Int32) → (Nat → Int32) → (Nat → Int32) → (Nat → Int32) → (Nat → Int32) → (Nat → Int32) → (Nat → Int32) → (Nat → Int32) → Prop}
    {r o k0 : Nat} (h5 : n ≤ 5) (hr : r < n) (ho : o < 32) (hK : KN n al be ab bw) (hk : k0 < sn (wy n (al_row al n) (n - 1 - r) o) (tb_R n)) (hk2 : k0 < 2 ^ 31)
    (H : ∀ i, i < tb_R n → sn (wy n (al_row al n) (n - 1 - r) o) i ≤ k0 → k0 < sn (wy n (al_row al n) (n - 1 - r) o) (i + 1) → wX_lay_91 post J (nI (k0 - sn (wy n (al_row al n) (n - 1 - r) o) i)) (nI o) (nI r) (nI i) (nI n) (nI (tb_R n)) fk ar ac cb (tP n) (tM n) al hd be ab bw wk fl fa co se) :
    ∀ (k i : Nat), i + k = tb_R n → sn (wy n (al_row al n) (n - 1 - r) o) i ≤ k0 → wX_lay_42 post J (nI o) (nI r) (nI n) (nI (tb_R n)) fk ar ac cb (tP n) (tM n) al hd be ab bw wk fl fa co se (k + 2) (nI (k0 - sn (wy n (al_row al n) (n - 1 - r) o) i)) (-1) (nI i)
  | 0, i, h, hi => by
    have e : i = tb_R n := by omega
    subst e
    exact absurd hk (by omega)
  | k + 1, i, h, hi => by
    have hR := tb_R16 h5
    refine pk_le (tb_R n) i (fun z => absurd z (by omega)) (fun hin => br_f (by decide) (x_way h5 hr hin ho hK ?_))
    have hs : sn (wy n (al_row al n) (n - 1 - r) o) (i + 1) = sn (wy n (al_row al n) (n - 1 - r) o) i + wy n (al_row al n) (n - 1 - r) o i := rfl
    have hb : wy n (al_row al n) (n - 1 - r) o i ≤ 1048576 := by
      by_cases c : (ok n i o && al_row al n (n - 1 - (n - 1 - r)) i) = true
      · rw [wy_yes c]; exact sq_bd5 h5 (by omega) _
      · rw [wy_no c]; omega
    refine pk_le (wy n (al_row al n) (n - 1 - r) o i) (k0 - sn (wy n (al_row al n) (n - 1 - r) o) i) (fun c => ?_) (fun c => ?_)
    · refine nm_r (e' := nI (k0 - sn (wy n (al_row al n) (n - 1 - r) o) (i + 1))) ?_ (nm_r (nI_1 i) (x_l42 h5 hr ho hK hk hk2 H k (i + 1) (by omega) (by omega)))
      rw [pk_sub c]
      exact congrArg nI (by omega)
    · refine nm_r (nI_1 i) ?_
      have F := H i hin hi (by omega)
      refine pk_le (tb_R n) (i + 1) (fun _ => F) (fun _ => br_t (nI_pos' (by omega)) F)
theorem sg_get {A : Nat → Nat → Bool} {m o i k : Nat} (h : k < wy n A m o i) : ∃ t, ok n i o = true ∧ (sq n A m (af n i o))[k]? = some t ∧ (sg n A m o i)[k]? = some (i :: t) := by
  by_cases c : (ok n i o && A (n - 1 - m) i) = true
  · rw [wy_yes c] at h
    refine ⟨(sq n A m (af n i o))[k], ?_, List.getElem?_eq_getElem h, ?_⟩
    · rw [Bool.and_eq_true] at c; exact c.1
    · unfold sg
      rw [if_pos c, List.getElem?_map, List.getElem?_eq_getElem h]
      rfl
  · rw [wy_no c] at h
    exact absurd h (by omega)
theorem drop_s {s : List Nat} {r i : Nat} {t : List Nat} (h : s.drop r = i :: t) : s.getD r 0 = i ∧ s.drop (r + 1) = t := by
  constructor
  · have e : s[r]? = some i := by
      have := congrArg (fun l => l[0]?) h
      simpa using this
    rw [List.getD_eq_getElem?_getD, e]; rfl
  · rw [← List.drop_drop, h]; rfl
theorem x_l27 {post : Int32 → SX → Prop} {s : List Nat} (h1 : 1 ≤ n) (h5 : n ≤ 5) (hK : KN n al be ab bw)
    (H : ∀ W FL FA : Nat → Int32, Sh n s W → SU n (mt n s) n 0 FL FA → post 1 ((nI n), (nI (tb_R n)), fk, ar, ac, cb, (tP n), (tM n), al, hd, be, ab, bw, W, FL, FA, co, se)) :
    ∀ (k r o q : Nat) (W : Nat → Int32), r + k = n → o < 32 → (sq n (al_row al n) k o)[q]? = some (s.drop r) → (∀ r', r' < r → ∀ c, c < n → W (5 * r' + c) = iz_n (mt n s r' c)) → wX_lay_27 post (k + 1) (nI q) (nI o) (nI r) (nI n) (nI (tb_R n)) fk ar ac cb (tP n) (tM n) al hd be ab bw W fl fa co se
  | 0, r, o, q, W, h, ho, hq, hW => by
    have e : r = n := by omega
    subst e
    exact pk_le r r (fun _ => x_sum (M := mt r s) h5 hW (fun FL FA I => H W FL FA hW I)) (fun z => absurd z (by omega))
  | k + 1, r, o, q, W, h, ho, hq, hW => by
    have hR := tb_R16 h5
    have hq1 : q < (sq n (al_row al n) (k + 1) o).length := (List.getElem?_eq_some_iff.mp hq).1
    have hq2 := sq_bd5 (A := al_row al n) h5 (show k + 1 ≤ 5 by omega) o
    have ek : n - 1 - r = k := by omega
    have hlen := sq_len n (al_row al n) k o
    refine pk_le n r (fun z => absurd z (by omega)) (fun hr => Exists.intro (tb_R n + 2) ?_)
    refine x_l42 (k0 := q) h5 hr ho hK (by rw [ek, ← hlen]; exact hq1) (by omega) (fun i hi a1 a2 => ?_) (tb_R n) 0 (by omega) (by show (0 : Nat) ≤ q; omega)
    rw [ek] at a1 a2
    have hs : sn (wy n (al_row al n) k o) (i + 1) = sn (wy n (al_row al n) k o) i + wy n (al_row al n) k o i := rfl
    obtain ⟨t, g1, g2, g3⟩ := sg_get (n := n) (A := al_row al n) (m := k) (o := o) (i := i) (k := q - sn (wy n (al_row al n) k o) i) (by omega)
    have hfun : (fun i => (sg n (al_row al n) k o i).length) = wy n (al_row al n) k o := funext (fun i => sg_len n (al_row al n) k o i)
    have g4 := lr_get (sg n (al_row al n) k o) (tb_R n) i q hi (by rw [hfun]; exact a1) (by rw [hfun]; exact a2)
    rw [hfun, ← sq_s, hq, g3] at g4
    have g5 := drop_s (Option.some.inj g4)
    rw [ek]
    refine x_layR h5 hr (by omega) (fun W' b1 b2 => x_aft h5 (by omega) ho (nm_r (nI_1 r) ?_))
    refine x_l27 h1 h5 hK H k (r + 1) (af n i o) _ W' (by omega) (af_lt h5 (by omega) ho) (by rw [g5.2]; exact g2) (fun r' hr' c hc => ?_)
    by_cases d : r' = r
    · subst d
      rw [b1 c hc]
      unfold mt
      rw [g5.1]
    · rw [b2 _ (Or.inl (by omega))]; exact hW r' (by omega) c hc
theorem x_lay {post : Int32 → SX → Prop} {p : Int32} (h1 : 1 ≤ n) (h5 : n ≤ 5) (hK : fk = 0 ∨ KN n al be ab bw)
    (H0 : kth n al p = none → ∀ (fk' : Int32) (be' ab' bw' : Nat → Int32), KN n al be' ab' bw' → post 0 ((nI n), (nI (tb_R n)), fk', ar, ac, cb, (tP n), (tM n), al, hd, be', ab', bw', wk, fl, fa, co, se))
    (H1 : ∀ s : List Nat, kth n al p = some s → ∀ (fk' : Int32) (be' ab' bw' W FL FA : Nat → Int32), KN n al be' ab' bw' → Sh n s W → SU n (mt n s) n 0 FL FA → post 1 ((nI n), (nI (tb_R n)), fk', ar, ac, cb, (tP n), (tM n), al, hd, be', ab', bw', W, FL, FA, co, se)) :
    wpX_lay post ((nI n), (nI (tb_R n)), fk, ar, ac, cb, (tP n), (tM n), al, hd, be, ab, bw, wk, fl, fa, co, se) p := by
  refine x_find (post := fun u => _) h1 h5 hK (fun fk' be' ab' bw' hK' => ?_)
  have h0 := hK'.1 0 (Nat.zero_le _) 0 (by omega)
  rw [Nat.sub_zero, show 32 * 0 + 0 = 0 from rfl] at h0
  have hb := sq_bd5 (A := al_row al n) h5 h5 0
  refine br_c (fun z => H0 (if_pos z) _ _ _ _ hK') (fun z => ?_)
  obtain ⟨j, hj, rfl⟩ := nI_of z
  have ek : kth n al (nI j) = (sq n (al_row al n) n 0)[j]? := by
    unfold kth
    rw [if_neg z, nI_clamp hj]
  rw [h0]
  refine pk_lt j (sq n (al_row al n) n 0).length (fun c => ?_) (fun c => ?_)
  · have e := List.getElem?_eq_getElem c
    refine Exists.intro (n + 1) (x_l27 h1 h5 hK' (fun W FL FA a b => H1 _ (ek.trans e) _ _ _ _ W FL FA hK' a b) n 0 0 j wk (by omega) (by omega) e (fun r' hr' => absurd hr' (by omega)))
  · exact H0 (ek.trans (List.getElem?_eq_none c)) _ _ _ _ hK'
end
end
section
/-! the reference finds square number k -/
section
variable {n : Nat} {dp : Int32} {al yh ys yf yo yp : Nat → Int32}
theorem y_f28 {post : Int32 → SY → Prop} {k0 : Nat} (hk : k0 < 2 ^ 31)
    (H : ∀ F : Nat → Int32, (∀ p, p < 25 → F p = ys p) → post 1 ((nI n), dp, al, yh, ys, F, yo, yp)) :
    ∀ (k p : Nat) (F : Nat → Int32), p + k = 25 → (∀ q, q < p → F q = ys q) → wY_find_28 post (nI k0) (nI n) dp (k + 1) (nI p) al yh ys F yo yp
  | 0, p, F, h, hF => by
    have e : p = 25 := by omega
    subst e
    exact pk_le 25 25 (fun _ => br_f (nI_pos hk) (H F hF)) (fun z => absurd z (by omega))
  | k + 1, p, F, h, hF => by
    refine pk_le 25 p (fun z => absurd z (by omega)) (fun hp => br_f (nI_pos hk) ⟨bq_in hp (by omega), bq_in hp (by omega), ?_⟩)
    rw [bq_cl (by omega)]
    refine nm_e (nm_r (nI_1 p) (y_f28 hk H k (p + 1) _ (by omega) (fun q hq => ?_)))
    by_cases c : q = p
    · subst c; exact pk_us
    · rw [pk_un c]; exact hF q (by omega)
theorem sh_cp {n : Nat} {s : List Nat} {f g : Nat → Int32} (h5 : n ≤ 5) (h : Sh n s f) (hg : ∀ p, p < 25 → g p = f p) : Sh n s g :=
  fun r hr c hc => by rw [hg _ (by omega)]; exact h r hr c hc
theorem y_f6 {post : Int32 → SY → Prop} {k0 : Nat} {L0 : List (List Nat)} (h1 : 1 ≤ n) (h5 : n ≤ 5) (hk : k0 < 2 ^ 31) (hl : L0.length ≤ 1048576)
    (H0 : L0[k0]? = none → ∀ (d : Int32) (zs : Nat → Int32), post 0 ((nI n), d, al, yh, zs, yf, yo, yp))
    (H1 : ∀ s, L0[k0]? = some s → ∀ (d : Int32) (zs F : Nat → Int32), Sh n s F → post 1 ((nI n), d, al, yh, zs, F, yo, yp)) :
    ∀ (k j : Nat) (L : List (List Nat)) (d : Int32) (zs : Nat → Int32), j + k = k0 + 1 → L0.drop j = L → j ≤ L0.length → (∀ s, s ∈ L → OK n s) → YS n al L d zs → (∀ s, j = k0 + 1 → L0[k0]? = some s → Sh n s zs) →
    wY_find_6 post (nI k0) (k + 1) (nI j) (nI n) d al yh zs yf yo yp
  | 0, j, L, d, zs, h, hL, hj, hO, I, hS => by
    have e : j = k0 + 1 := by omega
    refine pk_lt k0 j (fun _ => Exists.intro 26 ?_) (fun z => absurd z (by omega))
    have e1 := List.getElem?_eq_getElem (show k0 < L0.length by omega)
    exact y_f28 hk (fun F hF => H1 _ e1 d zs F (sh_cp h5 (hS _ e e1) hF)) 25 0 yf (by omega) (fun q hq => absurd hq (by omega))
  | k + 1, j, L, d, zs, h, hL, hj, hO, I, hS => by
    refine pk_lt k0 j (fun z => absurd z (by omega)) (fun hjk => y_adv h1 h5 hO I (fun z d' zs' => ?_) (fun s L' e d' zs' I' hs => ?_))
    · refine br_t rfl (H0 (List.getElem?_eq_none ?_) d' zs')
      rw [z] at hL
      have := List.drop_eq_nil_iff.mp hL
      omega
    · rw [e] at hL
      have hj2 : j < L0.length := by
        have := congrArg List.length hL
        rw [List.length_drop, List.length_cons] at this
        omega
      refine br_f (by decide) (nm_r (nI_1 j) (y_f6 h1 h5 hk hl H0 H1 k (j + 1) L' d' zs' (by omega) ?_ hj2 (fun t ht => hO t (by rw [e]; exact List.mem_cons_of_mem _ ht)) I' (fun t et ht => ?_)))
      · rw [← List.drop_drop, hL]; rfl
      · have ej : j = k0 := by omega
        subst ej
        have e2 : L0[j]? = some s := by
          have := congrArg (fun l => l[0]?) hL
          simpa using this
        rw [e2] at ht
        cases ht
        exact hs
theorem y_find {post : Int32 → SY → Prop} {p : Int32} (h1 : 1 ≤ n) (h5 : n ≤ 5)
    (H0 : kth n al p = none → ∀ (d : Int32) (zs : Nat → Int32), post 0 ((nI n), d, al, yh, zs, yf, yo, yp))
    (H1 : ∀ s : List Nat, kth n al p = some s → ∀ (d : Int32) (zs F : Nat → Int32), Sh n s F → post 1 ((nI n), d, al, yh, zs, F, yo, yp)) : wpY_find post ((nI n), dp, al, yh, ys, yf, yo, yp) p := by
  unfold wpY_find
  dsimp only
  refine y_begin h1 h5 (fun zs I => ?_)
  by_cases z : p < 0
  · refine Exists.intro 1 (br_t z (Exists.intro 1 (br_f (by decide) (br_t z (br_t z ?_)))))
    exact H0 (if_pos z) 0 zs
  · obtain ⟨j, hj, rfl⟩ := nI_of z
    have ek : kth n al (nI j) = (sq n (al_row al n) n 0)[j]? := by
      unfold kth
      rw [if_neg z, nI_clamp hj]
    rw [ek] at H0 H1
    exact Exists.intro (j + 1 + 1) (y_f6 h1 h5 hj (sq_bd5 h5 h5 0) H0 H1 (j + 1) 0 _ 0 zs (by omega) rfl (Nat.zero_le _) sq_OK I (fun s e => absurd e (by omega)))
end
end
section
/-! paths and rings: at each place two sides are on, and neighbours agree -/
def nb (n r c s : Nat) : Option (Nat × Nat) :=
  if s = 0 then (if r = 0 then none else some (r - 1, c)) else if s = 1 then (if c + 1 < n then some (r, c + 1) else none)
  else if s = 2 then (if r + 1 < n then some (r + 1, c) else none) else (if c = 0 then none else some (r, c - 1))
def op4 (s : Nat) : Nat := (s + 2) % 4
theorem op4_lt (s : Nat) : op4 s < 4 := Nat.mod_lt _ (by decide)
theorem op4_op : ∀ s, s < 4 → op4 (op4 s) = s := by decide
theorem s4 {P : Nat → Prop} (p0 : P 0) (p1 : P 1) (p2 : P 2) (p3 : P 3) : ∀ s, s < 4 → P s := by
  intro s hs
  have h : s = 0 ∨ s = 1 ∨ s = 2 ∨ s = 3 := by omega
  rcases h with rfl | rfl | rfl | rfl
  · exact p0
  · exact p1
  · exact p2
  · exact p3
theorem nb_0 (n r c : Nat) : nb n r c 0 = if r = 0 then none else some (r - 1, c) := rfl
theorem nb_1 (n r c : Nat) : nb n r c 1 = if c + 1 < n then some (r, c + 1) else none := rfl
theorem nb_2 (n r c : Nat) : nb n r c 2 = if r + 1 < n then some (r + 1, c) else none := rfl
theorem nb_3 (n r c : Nat) : nb n r c 3 = if c = 0 then none else some (r, c - 1) := rfl
theorem nb_sym {n r c r' c' : Nat} (hr : r < n) (hc : c < n) : ∀ s, s < 4 → nb n r c s = some (r', c') → nb n r' c' (op4 s) = some (r, c) ∧ r' < n ∧ c' < n ∧ ¬ (r' = r ∧ c' = c) := by
  refine s4 ?_ ?_ ?_ ?_
  · rw [nb_0]
    intro h
    by_cases q : r = 0
    · rw [if_pos q] at h; cases h
    · rw [if_neg q] at h
      cases h
      rw [show op4 0 = 2 from rfl, nb_2, if_pos (by omega)]
      refine ⟨?_, by omega, hc, by omega⟩
      rw [show r - 1 + 1 = r by omega]
  · rw [nb_1]
    intro h
    by_cases q : c + 1 < n
    · rw [if_pos q] at h
      cases h
      rw [show op4 1 = 3 from rfl, nb_3, if_neg (by omega)]
      exact ⟨rfl, hr, q, by omega⟩
    · rw [if_neg q] at h; cases h
  · rw [nb_2]
    intro h
    by_cases q : r + 1 < n
    · rw [if_pos q] at h
      cases h
      rw [show op4 2 = 0 from rfl, nb_0, if_neg (by omega)]
      exact ⟨rfl, q, hc, by omega⟩
    · rw [if_neg q] at h; cases h
  · rw [nb_3]
    intro h
    by_cases q : c = 0
    · rw [if_pos q] at h; cases h
    · rw [if_neg q] at h
      cases h
      rw [show op4 3 = 1 from rfl, nb_1, if_pos (by omega)]
      refine ⟨?_, hr, by omega, by omega⟩
      rw [show c - 1 + 1 = c by omega]
/-- the first side that is on, other than one -/
def ot (f : Nat → Bool) (a : Nat) : Nat :=
  if 0 ≠ a ∧ f 0 = true then 0 else if 1 ≠ a ∧ f 1 = true then 1 else if 2 ≠ a ∧ f 2 = true then 2 else if 3 ≠ a ∧ f 3 = true then 3 else a
def two (f : Nat → Bool) : Prop := (f 0).toNat + (f 1).toNat + (f 2).toNat + (f 3).toNat = 2
theorem ot_f {f : Nat → Bool} (h : two f) (a : Nat) : ot f a < 4 ∧ f (ot f a) = true ∧ ot f a ≠ a := by
  unfold two at h
  unfold ot
  by_cases q0 : 0 ≠ a ∧ f 0 = true
  · rw [if_pos q0]; exact ⟨by decide, q0.2, q0.1⟩
  · rw [if_neg q0]
    by_cases q1 : 1 ≠ a ∧ f 1 = true
    · rw [if_pos q1]; exact ⟨by decide, q1.2, q1.1⟩
    · rw [if_neg q1]
      by_cases q2 : 2 ≠ a ∧ f 2 = true
      · rw [if_pos q2]; exact ⟨by decide, q2.2, q2.1⟩
      · rw [if_neg q2]
        by_cases q3 : 3 ≠ a ∧ f 3 = true
        · rw [if_pos q3]; exact ⟨by decide, q3.2, q3.1⟩
        · exfalso
          have z : ∀ s, ¬ (s ≠ a ∧ f s = true) → (f s).toNat = if s = a then (f s).toNat else 0 := by
            intro s hs
            by_cases e : s = a
            · rw [if_pos e]
            · rw [if_neg e]
              have : f s = false := by
                cases g : f s with
                | false => rfl
                | true => exact absurd ⟨e, g⟩ hs
              rw [this]; rfl
          have b : ∀ s, (f s).toNat ≤ 1 := fun s => Bool.toNat_le (f s)
          have z0 := z 0 q0
          have z1 := z 1 q1
          have z2 := z 2 q2
          have z3 := z 3 q3
          have b0 := b 0
          have b1 := b 1
          have b2 := b 2
          have b3 := b 3
          by_cases e0 : 0 = a
          · rw [if_neg (by omega)] at z1 z2 z3; omega
          · rw [if_neg e0] at z0
            by_cases e1 : 1 = a
            · rw [if_neg (by omega)] at z2 z3; omega
            · rw [if_neg e1] at z1
              by_cases e2 : 2 = a
              · rw [if_neg (by omega)] at z3; omega
              · rw [if_neg e2] at z2; omega
theorem two_2 {f : Nat → Bool} (h : two f) {a b d : Nat} (ha : a < 4) (hb : b < 4) (hd : d < 4) (fa : f a = true) (fb : f b = true) (fd : f d = true) (hab : a ≠ b) : d = a ∨ d = b := by
  unfold two at h
  by_cases c : d = a ∨ d = b
  · exact c
  · exfalso
    have b0 := Bool.toNat_le (f 0)
    have b1 := Bool.toNat_le (f 1)
    have b2 := Bool.toNat_le (f 2)
    have b3 := Bool.toNat_le (f 3)
    have ta : ∀ s, f s = true → (f s).toNat = 1 := fun s hs => by rw [hs]; rfl
    have t1 := ta a fa
    have t2 := ta b fb
    have t3 := ta d fd
    have ca : a = 0 ∨ a = 1 ∨ a = 2 ∨ a = 3 := by omega
    have cb : b = 0 ∨ b = 1 ∨ b = 2 ∨ b = 3 := by omega
    have cd : d = 0 ∨ d = 1 ∨ d = 2 ∨ d = 3 := by omega
    rcases ca with rfl | rfl | rfl | rfl <;> rcases cb with rfl | rfl | rfl | rfl <;> rcases cd with rfl | rfl | rfl | rfl <;> omega
theorem ot_2 {f : Nat → Bool} (h : two f) {a b : Nat} (ha : a < 4) (hb : b < 4) (fa : f a = true) (fb : f b = true) : b = a ∨ b = ot f a := by
  have o := ot_f h a
  exact two_2 h ha o.1 hb fa o.2.1 fb (fun z => o.2.2 z.symm)
theorem ot_ot {f : Nat → Bool} (h : two f) {a : Nat} (ha : a < 4) (fa : f a = true) : ot f (ot f a) = a := by
  have o := ot_f h a
  have p := ot_f h (ot f a)
  rcases ot_2 h ha p.1 fa p.2.1 with e | e
  · exact e
  · exact absurd e p.2.2
/-- what is asked of the sides: two on at each place, neighbours agree -/
def FP (n : Nat) (f : Nat → Nat → Nat → Bool) : Prop :=
  (∀ r c, r < n → c < n → two (f r c)) ∧ (∀ r c s r' c', r < n → c < n → s < 4 → nb n r c s = some (r', c') → f r' c' (op4 s) = f r c s)
/-- where one is: row, column, the side by which one came -/
abbrev Pos : Type := Nat × Nat × Nat
def exi (f : Nat → Nat → Nat → Bool) (x : Pos) : Nat := ot (f x.1 x.2.1) x.2.2
def nxo (n : Nat) (f : Nat → Nat → Nat → Bool) (x : Pos) : Option (Nat × Nat) := nb n x.1 x.2.1 (exi f x)
def nxt (n : Nat) (f : Nat → Nat → Nat → Bool) (x : Pos) : Pos := (((nxo n f x).getD (0, 0)).1, ((nxo n f x).getD (0, 0)).2, op4 (exi f x))
def tr (n : Nat) (f : Nat → Nat → Nat → Bool) (x : Pos) : Nat → Pos
  | 0 => x
  | i + 1 => nxt n f (tr n f x i)
def Gd (n : Nat) (f : Nat → Nat → Nat → Bool) (x : Pos) : Prop := x.1 < n ∧ x.2.1 < n ∧ x.2.2 < 4 ∧ f x.1 x.2.1 x.2.2 = true
theorem pr_pl {a b c d : Nat} (h : (a, b) = (c, d)) : 5 * a + b = 5 * c + d := by
  cases h; rfl
def pv (x : Pos) : Nat := 5 * x.1 + x.2.1
theorem pv_inj {n : Nat} {f : Nat → Nat → Nat → Bool} {x y : Pos} (h5 : n ≤ 5) (hx : Gd n f x) (hy : Gd n f y) (h : pv x = pv y) : x.1 = y.1 ∧ x.2.1 = y.2.1 := by
  have a := hx.2.1
  have b := hy.2.1
  unfold pv at h
  omega
theorem exi_f {n : Nat} {f : Nat → Nat → Nat → Bool} (F : FP n f) {x : Pos} (h : Gd n f x) : exi f x < 4 ∧ f x.1 x.2.1 (exi f x) = true ∧ exi f x ≠ x.2.2 := ot_f (F.1 _ _ h.1 h.2.1) _
theorem nxt_s {n : Nat} {f : Nat → Nat → Nat → Bool} {x : Pos} (h : nxo n f x ≠ none) : nxo n f x = some ((nxt n f x).1, (nxt n f x).2.1) := by
  unfold nxt
  cases g : nxo n f x with
  | none => exact absurd g h
  | some v => rfl
theorem Gd_n {n : Nat} {f : Nat → Nat → Nat → Bool} (F : FP n f) {x : Pos} (h : Gd n f x) (hs : nxo n f x ≠ none) : Gd n f (nxt n f x) ∧ nb n (nxt n f x).1 (nxt n f x).2.1 (nxt n f x).2.2 = some (x.1, x.2.1) ∧ ¬ ((nxt n f x).1 = x.1 ∧ (nxt n f x).2.1 = x.2.1) := by
  have e := nxt_s hs
  have o := exi_f F h
  have s := nb_sym h.1 h.2.1 (exi f x) o.1 e
  have s2 := F.2 _ _ _ _ _ h.1 h.2.1 o.1 e
  refine ⟨⟨s.2.1, s.2.2.1, op4_lt _, ?_⟩, s.1, s.2.2.2⟩
  show f (nxt n f x).1 (nxt n f x).2.1 (op4 (exi f x)) = true
  rw [s2]; exact o.2.1
theorem pk_leastq (P : Nat → Prop) (h : ∃ k, P k) : ∃ k, P k ∧ ∀ j, j < k → ¬ P j := by
  obtain ⟨k, hk⟩ := h
  induction k using Nat.strongRecOn with
  | ind k ih =>
    by_cases c : ∃ j, j < k ∧ P j
    · obtain ⟨j, hj, hp⟩ := c
      exact ih j hj hp
    · exact ⟨k, hk, fun j hj hp => c ⟨j, hj, hp⟩⟩
section
variable {n : Nat} {f : Nat → Nat → Nat → Bool} {x : Pos}
theorem tr_g (F : FP n f) (h : Gd n f x) : ∀ k : Nat, (∀ i, i < k → nxo n f (tr n f x i) ≠ none) → Gd n f (tr n f x k)
  | 0, _ => h
  | k + 1, hk => (Gd_n F (tr_g F h k (fun i hi => hk i (by omega))) (hk k (by omega))).1
/-- one comes back to the start alone, and by the side by which one came to it -/
theorem tr_back (h5 : n ≤ 5) (F : FP n f) (h : Gd n f x) {m j : Nat} (hk : ∀ i, i < m + 1 → nxo n f (tr n f x i) ≠ none)
    (hd : ∀ a b, a ≤ m → b ≤ m → pv (tr n f x a) = pv (tr n f x b) → a = b) (hj : j ≤ m) (he : pv (tr n f x (m + 1)) = pv (tr n f x j)) :
    j = 0 ∧ (tr n f x (m + 1)).2.2 = x.2.2 := by
  have g : ∀ i, i ≤ m + 1 → Gd n f (tr n f x i) := fun i hi => tr_g F h i (fun a ha => hk a (by omega))
  have gm := g m (by omega)
  have N := Gd_n F gm (hk m (by omega))
  have gj := g j (by omega)
  have v := pv_inj h5 N.1 gj he
  -- the side by which one comes back is one of the two that are on there
  have on1 : f (tr n f x j).1 (tr n f x j).2.1 (nxt n f (tr n f x m)).2.2 = true := by
    rw [← v.1, ← v.2]; exact N.1.2.2.2
  have nbm : nb n (tr n f x j).1 (tr n f x j).2.1 (nxt n f (tr n f x m)).2.2 = some ((tr n f x m).1, (tr n f x m).2.1) := by
    rw [← v.1, ← v.2]; exact N.2.1
  have T := F.1 _ _ gj.1 gj.2.1
  have em := exi_f F gm
  rcases ot_2 T gj.2.2.1 (N.1.2.2.1) gj.2.2.2 on1 with e | e
  · -- by the side by which one came to j
    cases j with
    | zero => exact ⟨rfl, e⟩
    | succ i =>
      have gi := g i (by omega)
      have Ni := Gd_n F gi (hk i (by omega))
      have q : nb n (tr n f x (i + 1)).1 (tr n f x (i + 1)).2.1 (nxt n f (tr n f x m)).2.2 = some ((tr n f x i).1, (tr n f x i).2.1) := by
        rw [e]; exact Ni.2.1
      rw [nbm] at q
      have q2 := Option.some.inj q
      have q3 : pv (tr n f x m) = pv (tr n f x i) := by
        exact pr_pl q2
      have := hd m i (Nat.le_refl _) (by omega) q3
      omega
  · -- by the side by which one left j
    exfalso
    by_cases c : j = m
    · subst c
      exact N.2.2 v
    · have Nj := nxt_s (hk j (by omega))
      have q : nb n (tr n f x j).1 (tr n f x j).2.1 (exi f (tr n f x j)) = some ((tr n f x m).1, (tr n f x m).2.1) := by
        rw [show exi f (tr n f x j) = (nxt n f (tr n f x m)).2.2 from e.symm]; exact nbm
      have q1 : nxo n f (tr n f x j) = some ((tr n f x m).1, (tr n f x m).2.1) := q
      rw [Nj] at q1
      have q2 := Option.some.inj q1
      have q3 : pv (tr n f x (j + 1)) = pv (tr n f x m) := by
        show pv (nxt n f (tr n f x j)) = _
        exact pr_pl q2
      have ejm := hd (j + 1) m (by omega) (Nat.le_refl _) q3
      -- so m came by the side by which it leaves
      have a1 : (tr n f x m).2.2 = op4 (exi f (tr n f x j)) := by
        rw [← ejm]; rfl
      have a2 : (nxt n f (tr n f x m)).2.2 = op4 (exi f (tr n f x m)) := rfl
      have a3 : exi f (tr n f x j) = op4 (exi f (tr n f x m)) := by rw [← a2]; exact e.symm
      rw [a3, op4_op _ em.1] at a1
      exact em.2.2 a1.symm
/-- different numbers below N are at most N many -/
theorem pg_ho : ∀ (N k : Nat) (g : Nat → Nat), (∀ i, i < k → g i < N) → (∀ a b, a < k → b < k → g a = g b → a = b) → k ≤ N
  | 0, k, g, h1, _ => by
    cases k with
    | zero => exact Nat.le_refl _
    | succ k => exact absurd (h1 0 (by omega)) (by omega)
  | N + 1, k, g, h1, h2 => by
    by_cases e : ∃ i0, i0 < k ∧ g i0 = N
    · obtain ⟨i0, hi0, hg⟩ := e
      have r := pg_ho N (k - 1) (fun i => if i < i0 then g i else g (i + 1)) (fun i hi => by
        show (if i < i0 then g i else g (i + 1)) < N
        by_cases c : i < i0
        · rw [if_pos c]
          have a := h1 i (by omega)
          have b : g i ≠ N := fun z => absurd (h2 i i0 (by omega) hi0 (z.trans hg.symm)) (by omega)
          omega
        · rw [if_neg c]
          have a := h1 (i + 1) (by omega)
          have b : g (i + 1) ≠ N := fun z => absurd (h2 (i + 1) i0 (by omega) hi0 (z.trans hg.symm)) (by omega)
          omega) (fun a b ha hb hab => by
        have hab' : (if a < i0 then g a else g (a + 1)) = (if b < i0 then g b else g (b + 1)) := hab
        by_cases ca : a < i0
        · rw [if_pos ca] at hab'
          by_cases cb : b < i0
          · rw [if_pos cb] at hab'
            exact h2 a b (by omega) (by omega) hab'
          · rw [if_neg cb] at hab'
            have := h2 a (b + 1) (by omega) (by omega) hab'
            omega
        · rw [if_neg ca] at hab'
          by_cases cb : b < i0
          · rw [if_pos cb] at hab'
            have := h2 (a + 1) b (by omega) (by omega) hab'
            omega
          · rw [if_neg cb] at hab'
            have := h2 (a + 1) (b + 1) (by omega) (by omega) hab'
            omega)
      omega
    · have r := pg_ho N k g (fun i hi => by
        have a := h1 i hi
        have b : g i ≠ N := fun z => e ⟨i, hi, z⟩
        omega) h2
      omega
/-- so long as one doesn't come back to the start, all places are different -/
theorem tr_dis (h5 : n ≤ 5) (F : FP n f) (h : Gd n f x) : ∀ m : Nat, (∀ i, i < m → nxo n f (tr n f x i) ≠ none) → (∀ i, i < m → pv (tr n f x (i + 1)) ≠ pv x) →
    ∀ a b, a ≤ m → b ≤ m → pv (tr n f x a) = pv (tr n f x b) → a = b
  | 0, _, _, a, b, ha, hb, _ => by omega
  | m + 1, hk, hs, a, b, ha, hb, hab => by
    have ih := tr_dis h5 F h m (fun i hi => hk i (by omega)) (fun i hi => hs i (by omega))
    have key : ∀ j, j ≤ m → pv (tr n f x (m + 1)) ≠ pv (tr n f x j) := fun j hj z => by
      have q := tr_back h5 F h hk ih hj z
      have q1 := q.1
      subst q1
      exact hs m (by omega) z
    by_cases ca : a = m + 1
    · by_cases cb : b = m + 1
      · omega
      · subst ca
        exact absurd hab (key b (by omega))
    · by_cases cb : b = m + 1
      · subst cb
        exact absurd hab.symm (key a (by omega))
      · exact ih a b (by omega) (by omega) hab
theorem pv_lt (h5 : n ≤ 5) {y : Pos} (h : Gd n f y) : pv y < 25 := by
  have a := h.1
  have b := h.2.1
  unfold pv
  omega
/-- within 25 steps one leaves, or comes back to the start -/
theorem tr_end (h5 : n ≤ 5) (F : FP n f) (h : Gd n f x) : ∃ m, m < 25 ∧ (∀ i, i < m → nxo n f (tr n f x i) ≠ none) ∧ (∀ i, i < m → pv (tr n f x (i + 1)) ≠ pv x) ∧ (nxo n f (tr n f x m) = none ∨ pv (tr n f x (m + 1)) = pv x) := by
  by_cases c : ∃ m, m < 25 ∧ (nxo n f (tr n f x m) = none ∨ pv (tr n f x (m + 1)) = pv x)
  · obtain ⟨m, hm, hl⟩ := pk_leastq (fun m => m < 25 ∧ (nxo n f (tr n f x m) = none ∨ pv (tr n f x (m + 1)) = pv x)) c
    exact ⟨m, hm.1, fun i hi z => hl i hi ⟨by omega, Or.inl z⟩, fun i hi z => hl i hi ⟨by omega, Or.inr z⟩, hm.2⟩
  · exfalso
    have a1 : ∀ i, i < 25 → nxo n f (tr n f x i) ≠ none := fun i hi z => c ⟨i, hi, Or.inl z⟩
    have a2 : ∀ i, i < 25 → pv (tr n f x (i + 1)) ≠ pv x := fun i hi z => c ⟨i, hi, Or.inr z⟩
    have d := tr_dis h5 F h 25 a1 a2
    have p := pg_ho 25 26 (fun i => pv (tr n f x i)) (fun i hi => pv_lt h5 (tr_g F h i (fun j hj => a1 j (by omega)))) (fun a b ha hb hab => d a b (by omega) (by omega) hab)
    omega
/-- from an outer side one leaves, all places being different -/
theorem tr_out (h5 : n ≤ 5) (F : FP n f) (h : Gd n f x) (ho : nb n x.1 x.2.1 x.2.2 = none) : ∃ m, m < 25 ∧ (∀ i, i < m → nxo n f (tr n f x i) ≠ none) ∧ (∀ i, i < m → pv (tr n f x (i + 1)) ≠ pv x) ∧ nxo n f (tr n f x m) = none := by
  obtain ⟨m, hm, h1, h2, h3⟩ := tr_end h5 F h
  refine ⟨m, hm, h1, h2, ?_⟩
  by_cases c : nxo n f (tr n f x m) = none
  · exact c
  · exfalso
    have hk : ∀ i, i < m + 1 → nxo n f (tr n f x i) ≠ none := fun i hi => by
      by_cases e : i = m
      · subst e; exact c
      · exact h1 i (by omega)
    have e := h3.resolve_left c
    have q := tr_back h5 F h hk (tr_dis h5 F h m h1 h2) (Nat.zero_le m) e
    have gm := tr_g F h m h1
    have N := Gd_n F gm c
    have v := pv_inj h5 N.1 h e
    have N2 := N.2.1
    rw [v.1, v.2, show (nxt n f (tr n f x m)).2.2 = x.2.2 from q.2, ho] at N2
    cases N2
/-- a set of places that is left by no side that is on -/
def Cl (n : Nat) (f : Nat → Nat → Nat → Bool) (P : Nat → Prop) : Prop := ∀ r c s r' c', r < n → c < n → s < 4 → P (5 * r + c) → f r c s = true → nb n r c s = some (r', c') → P (5 * r' + c')
theorem Cl_or {P Q : Nat → Prop} (hP : Cl n f P) (hQ : Cl n f Q) : Cl n f (fun p => P p ∨ Q p) := fun r c s r' c' hr hc hs h1 h2 h3 =>
  h1.elim (fun z => Or.inl (hP r c s r' c' hr hc hs z h2 h3)) (fun z => Or.inr (hQ r c s r' c' hr hc hs z h2 h3))
/-- what is outside of it is left by none either -/
theorem Cl_not (F : FP n f) {P : Nat → Prop} (hP : Cl n f P) : Cl n f (fun p => ¬ P p) := fun r c s r' c' hr hc hs h1 h2 h3 h4 => by
  have q := nb_sym hr hc s hs h3
  have q2 := F.2 r c s r' c' hr hc hs h3
  exact h1 (hP r' c' (op4 s) r c q.2.1 q.2.2.1 (op4_lt s) h4 (by rw [q2]; exact h2) q.1)
theorem Cl_tr (F : FP n f) (h : Gd n f x) {P : Nat → Prop} (hP : Cl n f P) (h0 : P (pv x)) : ∀ k : Nat, (∀ i, i < k → nxo n f (tr n f x i) ≠ none) → P (pv (tr n f x k))
  | 0, _ => h0
  | k + 1, hk => by
    have g := tr_g F h k (fun i hi => hk i (by omega))
    have o := exi_f F g
    exact hP _ _ _ _ _ g.1 g.2.1 o.1 (Cl_tr F h hP h0 k (fun i hi => hk i (by omega))) o.2.1 (nxt_s (hk k (by omega)))
/-- the places passed -/
def Ps (n : Nat) (f : Nat → Nat → Nat → Bool) (x : Pos) (m : Nat) : Nat → Prop := fun p => ∃ i, i ≤ m ∧ p = pv (tr n f x i)
theorem Cl_step (h5 : n ≤ 5) (F : FP n f) {y : Pos} (g : Gd n f y) {P : Nat → Prop} {r c s r' c' : Nat} (hs : s < 4) (hc : c < n) (e : 5 * r + c = pv y) (h2 : f r c s = true) (h3 : nb n r c s = some (r', c'))
    (H1 : ∀ r' c', nb n y.1 y.2.1 y.2.2 = some (r', c') → P (5 * r' + c')) (H2 : ∀ r' c', nxo n f y = some (r', c') → P (5 * r' + c')) : P (5 * r' + c') := by
  have e1 : r = y.1 ∧ c = y.2.1 := by
    have a := g.2.1
    unfold pv at e
    omega
  obtain ⟨rfl, rfl⟩ := e1
  rcases ot_2 (F.1 _ _ g.1 g.2.1) g.2.2.1 hs g.2.2.2 h2 with q | q
  · subst q; exact H1 r' c' h3
  · subst q; exact H2 r' c' h3
theorem Cl_path (h5 : n ≤ 5) (F : FP n f) (h : Gd n f x) (ho : nb n x.1 x.2.1 x.2.2 = none) {m : Nat} (h1 : ∀ i, i < m → nxo n f (tr n f x i) ≠ none) (h3 : nxo n f (tr n f x m) = none) : Cl n f (Ps n f x m) := by
  intro r c s r' c' hr hc hs hp h2 hn
  obtain ⟨i, hi, e⟩ := hp
  have g := tr_g F h i (fun j hj => h1 j (by omega))
  refine Cl_step h5 F g hs hc e h2 hn (fun r1 c1 z => ?_) (fun r1 c1 z => ?_)
  · cases i with
    | zero =>
      rw [show tr n f x 0 = x from rfl, ho] at z
      cases z
    | succ i =>
      have N := Gd_n F (tr_g F h i (fun j hj => h1 j (by omega))) (h1 i (by omega))
      have z' : some ((tr n f x i).1, (tr n f x i).2.1) = some (r1, c1) := N.2.1.symm.trans z
      have z2 := Option.some.inj z'
      refine ⟨i, by omega, ?_⟩
      exact (pr_pl z2).symm
  · by_cases q : i = m
    · subst q
      rw [h3] at z; cases z
    · have z' := (nxt_s (h1 i (by omega))).symm.trans z
      have z2 := Option.some.inj z'
      refine ⟨i + 1, by omega, ?_⟩
      show _ = pv (nxt n f (tr n f x i))
      exact (pr_pl z2).symm
theorem Cl_ring (h5 : n ≤ 5) (F : FP n f) (h : Gd n f x) {m : Nat} (h1 : ∀ i, i < m + 1 → nxo n f (tr n f x i) ≠ none) (h2' : ∀ i, i < m → pv (tr n f x (i + 1)) ≠ pv x) (h3 : pv (tr n f x (m + 1)) = pv x) : Cl n f (Ps n f x m) := by
  intro r c s r' c' hr hc hs hp h2 hn
  obtain ⟨i, hi, e⟩ := hp
  have g := tr_g F h i (fun j hj => h1 j (by omega))
  have gm := tr_g F h m (fun j hj => h1 j (by omega))
  have Nm := Gd_n F gm (h1 m (by omega))
  refine Cl_step h5 F g hs hc e h2 hn (fun r1 c1 z => ?_) (fun r1 c1 z => ?_)
  · cases i with
    | zero =>
      have q := tr_back h5 F h h1 (tr_dis h5 F h m (fun i hi => h1 i (by omega)) h2') (Nat.zero_le m) h3
      have v := pv_inj h5 Nm.1 h h3
      have N2 := Nm.2.1
      rw [v.1, v.2, show (nxt n f (tr n f x m)).2.2 = x.2.2 from q.2] at N2
      have z2 := Option.some.inj (N2.symm.trans z)
      refine ⟨m, Nat.le_refl _, ?_⟩
      exact (pr_pl z2).symm
    | succ i =>
      have N := Gd_n F (tr_g F h i (fun j hj => h1 j (by omega))) (h1 i (by omega))
      have z' : some ((tr n f x i).1, (tr n f x i).2.1) = some (r1, c1) := N.2.1.symm.trans z
      have z2 := Option.some.inj z'
      refine ⟨i, by omega, ?_⟩
      exact (pr_pl z2).symm
  · have z' := (nxt_s (h1 i (by omega))).symm.trans z
    have z2 := Option.some.inj z'
    by_cases q : i = m
    · subst q
      refine ⟨0, Nat.zero_le _, ?_⟩
      rw [show tr n f x 0 = x from rfl, ← h3]
      show _ = pv (nxt n f (tr n f x i))
      exact (pr_pl z2).symm
    · refine ⟨i + 1, by omega, ?_⟩
      show _ = pv (nxt n f (tr n f x i))
      exact (pr_pl z2).symm
/-- a start that no path comes to lies on a ring: by whichever of its sides one goes, the places passed are the same -/
theorem tr_ring (h5 : n ≤ 5) (F : FP n f) (h : Gd n f x) {P : Nat → Prop} (hP : Cl n f P) (h0 : ¬ P (pv x))
    (hout : ∀ r c s, r < n → c < n → s < 4 → f r c s = true → nb n r c s = none → P (5 * r + c)) :
    ∃ m, m < 25 ∧ (∀ i, i < m + 1 → nxo n f (tr n f x i) ≠ none) ∧ (∀ i, i < m → pv (tr n f x (i + 1)) ≠ pv x) ∧ pv (tr n f x (m + 1)) = pv x ∧ (∀ i, i ≤ m → ¬ P (pv (tr n f x i))) := by
  obtain ⟨m, hm, h1, h2, h3⟩ := tr_end h5 F h
  have np : ∀ i, i ≤ m → ¬ P (pv (tr n f x i)) := fun i hi => Cl_tr F h (Cl_not F hP) h0 i (fun j hj => h1 j (by omega))
  have c : nxo n f (tr n f x m) ≠ none := fun z => by
    have g := tr_g F h m h1
    have o := exi_f F g
    exact np m (Nat.le_refl _) (hout _ _ _ g.1 g.2.1 o.1 o.2.1 z)
  refine ⟨m, hm, fun i hi => ?_, h2, h3.resolve_left c, np⟩
  by_cases e : i = m
  · subst e; exact c
  · exact h1 i (by omega)
end
end
section
/-! which lists of rows are squares; their sums; their numbers -/
def Vp (n : Nat) (A : Nat → Nat → Bool) : Nat → Nat → List Nat → Prop
  | 0, o, s => s = [] ∧ o = 2 ^ n - 1
  | _ + 1, _, [] => False
  | m + 1, o, i :: t => i < tb_R n ∧ ok n i o = true ∧ A (n - 1 - m) i = true ∧ Vp n A m (af n i o) t
theorem mem_V {n : Nat} {A : Nat → Nat → Bool} : ∀ {m o : Nat} {s : List Nat}, s ∈ sq n A m o ↔ Vp n A m o s
  | 0, o, s => by
    unfold sq Vp
    by_cases c : o = 2 ^ n - 1
    · rw [if_pos c, List.mem_singleton]
      exact ⟨fun h => ⟨h, c⟩, fun h => h.1⟩
    · rw [if_neg c]
      exact ⟨fun h => (by cases h), fun h => absurd h.2 c⟩
  | m + 1, o, s => by
    rw [sq_s, List.mem_flatMap]
    constructor
    · rintro ⟨i, hi, hs⟩
      obtain ⟨h1, h2, t, ht, rfl⟩ := sg_mem hs
      exact ⟨List.mem_range.mp hi, h1, h2, mem_V.mp ht⟩
    · intro h
      cases s with
      | nil => exact h.elim
      | cons i t =>
        obtain ⟨h0, h1, h2, h3⟩ := h
        refine ⟨i, List.mem_range.mpr h0, ?_⟩
        unfold sg
        rw [h1, h2, if_pos (show (true && true) = true from rfl)]
        exact List.mem_map.mpr ⟨t, mem_V.mpr h3, rfl⟩
theorem V_top {n : Nat} {A : Nat → Nat → Bool} : ∀ {m o : Nat} {s : List Nat}, Vp n A m o s → Vp n (fun _ _ => true) m o s
  | 0, _, _, h => h
  | _ + 1, _, [], h => h
  | _ + 1, _, _ :: _, h => ⟨h.1, h.2.1, rfl, V_top h.2.2.2⟩
theorem ng_all {n : Nat} (h1 : 1 ≤ n) (h5 : n ≤ 5) : (sq n (fun _ _ => true) n 0).all (fun s => decide (ng n s < 5)) = true :=
  tb_n (P := fun n => (sq n (fun _ _ => true) n 0).all (fun s => decide (ng n s < 5)) = true) (by decide +kernel) (by decide +kernel) (by decide +kernel) (by decide +kernel) (by decide +kernel) h1 h5
theorem ng_5 {n : Nat} {A : Nat → Nat → Bool} (h1 : 1 ≤ n) (h5 : n ≤ 5) {s : List Nat} (h : s ∈ sq n A n 0) : ng n s < 5 := by
  have h2 := mem_V.mpr (V_top (mem_V.mp h))
  exact of_decide_eq_true (List.all_eq_true.mp (ng_all h1 h5) s h2)
/-- a square's columns -/
theorem V_col {n : Nat} {A : Nat → Nat → Bool} (h5 : n ≤ 5) : ∀ {m o : Nat} {s : List Nat}, Vp n A m o s → o < 2 ^ n → ∀ c, c < n → (∀ t, t ≤ m → 0 ≤ bi o c + si (fun k => en n (s.getD k 0) c) t ∧ bi o c + si (fun k => en n (s.getD k 0) c) t ≤ 1) ∧ bi o c + si (fun k => en n (s.getD k 0) c) m = 1
  | 0, o, s, h, ho, c, hc => by
    have b := (bi_full n (by omega) o ho).mp h.2 c hc
    refine ⟨fun t ht => ?_, ?_⟩
    · have e : t = 0 := by omega
      subst e
      show 0 ≤ bi o c + 0 ∧ bi o c + 0 ≤ 1
      omega
    · show bi o c + 0 = 1
      omega
  | m + 1, o, [], h, _, _, _ => h.elim
  | m + 1, o, i :: s, h, ho, c, hc => by
    obtain ⟨hi, hok, _, hv⟩ := h
    obtain ⟨b1, b2⟩ := ok_af n (by omega) i hi o ho hok
    have ih := V_col h5 hv b1 c hc
    have e : ∀ t, si (fun k => en n ((i :: s).getD k 0) c) (t + 1) = en n i c + si (fun k => en n (s.getD k 0) c) t := by
      intro t
      have := si_split (fun k => en n ((i :: s).getD k 0) c) 1 t
      rw [Nat.add_comm 1 t] at this
      rw [this]
      have e1 : si (fun k => en n ((i :: s).getD k 0) c) 1 = en n i c := by
        show (0 : Int) + en n i c = _
        omega
      have e2 : si (fun k => en n ((i :: s).getD (1 + k) 0) c) t = si (fun k => en n (s.getD k 0) c) t := si_ext t (fun k _ => by
        show en n ((i :: s).getD (1 + k) 0) c = _
        rw [Nat.add_comm 1 k]; rfl)
      rw [e1, e2]
    have b := b2 c hc
    refine ⟨fun t ht => ?_, ?_⟩
    · cases t with
      | zero =>
        have := bi_01 o c
        show 0 ≤ bi o c + 0 ∧ bi o c + 0 ≤ 1
        omega
      | succ t =>
        rw [e t]
        have := ih.1 t (by omega)
        omega
    · rw [e m]
      have := ih.2
      omega
/-- sums of rows and columns stay 0 or 1 and end with 1 -/
def Asm (n : Nat) (M : Nat → Nat → Int) : Prop :=
  (∀ r, r < n → ∀ c, c ≤ n → 0 ≤ si (M r) c ∧ si (M r) c ≤ 1) ∧ (∀ r, r < n → si (M r) n = 1) ∧
  (∀ c, c < n → ∀ r, r ≤ n → 0 ≤ si (fun k => M k c) r ∧ si (fun k => M k c) r ≤ 1) ∧ (∀ c, c < n → si (fun k => M k c) n = 1)
theorem bi_z (c : Nat) : bi 0 c = 0 := by
  unfold bi
  rw [Nat.zero_testBit]; rfl
theorem sq_asm {n : Nat} {A : Nat → Nat → Bool} (h1 : 1 ≤ n) (h5 : n ≤ 5) {s : List Nat} (h : s ∈ sq n A n 0) : Asm n (mt n s) := by
  have hm := sq_mem h
  have hv := mem_V.mp h
  refine ⟨fun r hr c hc => ?_, fun r hr => ?_, fun c hc r hr => ?_, fun c hc => ?_⟩
  · exact en_sum0 n (by omega) _ (hm.2 r hr) c (by omega)
  · exact en_sum1 n (by omega) (by omega) _ (hm.2 r hr)
  · have := (V_col h5 hv (Nat.two_pow_pos n) c hc).1 r hr
    rw [bi_z] at this
    have e : si (fun k => mt n s k c) r = si (fun k => en n (s.getD k 0) c) r := rfl
    omega
  · have := (V_col h5 hv (Nat.two_pow_pos n) c hc).2
    rw [bi_z] at this
    have e : si (fun k => mt n s k c) n = si (fun k => en n (s.getD k 0) c) n := rfl
    omega
/-- every alternating row is one of the table -/
theorem ws_mem : ∀ w : List Int, (∀ v, v ∈ w → v = -1 ∨ v = 0 ∨ v = 1) → w ∈ ws w.length
  | [], _ => List.mem_singleton.mpr rfl
  | v :: w, h => by
    have ih := ws_mem w (fun u hu => h u (List.mem_cons_of_mem _ hu))
    refine List.mem_flatMap.mpr ⟨v, ?_, List.mem_map.mpr ⟨w, ih, rfl⟩⟩
    rcases h v (List.mem_cons_self ..) with e | e | e
    · rw [e]; decide
    · rw [e]; decide
    · rw [e]; decide
theorem gd_r (n : Nat) (e : Nat → Int) : ∀ (k t : Nat), (∀ t', t ≤ t' → t' < t + k → (if t' = n - 1 then 1 else 0) ≤ si e (t' + 1) ∧ si e (t' + 1) ≤ 1) → gd n t (si e t) ((List.range' t k).map e) = true
  | 0, _, _ => rfl
  | k + 1, t, h => by
    rw [List.range'_succ, List.map_cons]
    show (decide ((if t = n - 1 then 1 else 0) ≤ si e (t + 1)) && (decide (si e (t + 1) ≤ 1) && gd n (t + 1) (si e (t + 1)) ((List.range' (t + 1) k).map e))) = true
    have h0 := h t (Nat.le_refl _) (by omega)
    rw [decide_eq_true h0.1, decide_eq_true h0.2, gd_r n e k (t + 1) (fun t' a b => h t' (by omega) (by omega))]
    rfl
theorem row_ex {n : Nat} (h1 : 1 ≤ n) (h5 : n ≤ 5) {e : Nat → Int} (he : ∀ c, c < n → -1 ≤ e c ∧ e c ≤ 1) (hs : ∀ c, c ≤ n → 0 ≤ si e c ∧ si e c ≤ 1) (ht : si e n = 1) : ∃ i, i < tb_R n ∧ ∀ c, c < n → e c = en n i c := by
  have m1 : (List.range' 0 n).map e ∈ ws n := by
    have := ws_mem ((List.range' 0 n).map e) (fun v hv => by
      obtain ⟨c, hc, rfl⟩ := List.mem_map.mp hv
      have hc' : c < n := by
        have := List.mem_range'_1.mp hc
        omega
      have := he c hc'
      omega)
    rw [List.length_map, List.length_range'] at this
    exact this
  have m2 : gd n 0 0 ((List.range' 0 n).map e) = true := gd_r n e n 0 (fun t' _ h => by
    have q := hs (t' + 1) (by omega)
    refine ⟨?_, q.2⟩
    by_cases c : t' = n - 1
    · rw [if_pos c, show t' + 1 = n by omega, ht]
      exact Int.le_refl _
    · rw [if_neg c]; exact q.1)
  have m3 : (List.range' 0 n).map e ∈ (ws n).filter (gd n 0 0) := List.mem_filter.mpr ⟨m1, m2⟩
  rw [ws_good h1 h5] at m3
  obtain ⟨i, hi, hh⟩ := List.mem_map.mp m3
  refine ⟨i, List.mem_range.mp hi, fun c hc => ?_⟩
  have q := congrArg (fun l => l.getD c 0) hh
  have q' : (rl n i).getD c 0 = ((List.range' 0 n).map e).getD c 0 := q
  rw [rl_get hc, List.getD_eq_getElem?_getD, List.getElem?_map, List.getElem?_range' hc] at q'
  simp at q'
  exact q'.symm
/-- the number of a square -/
def ixq (n : Nat) (A : Nat → Nat → Bool) : Nat → Nat → List Nat → Nat
  | m + 1, o, i :: t => sn (wy n A m o) i + ixq n A m (af n i o) t
  | _, _, _ => 0
theorem ix_lt {n : Nat} {A : Nat → Nat → Bool} : ∀ {m o : Nat} {s : List Nat}, Vp n A m o s → ixq n A m o s < (sq n A m o).length
  | 0, o, s, h => by
    obtain ⟨rfl, h⟩ := h
    unfold sq
    rw [if_pos h]
    show 0 < 1
    decide
  | m + 1, o, [], h => h.elim
  | m + 1, o, i :: t, h => by
    obtain ⟨hi, h1, h2, h3⟩ := h
    rw [sq_len]
    have ih := ix_lt h3
    have e : wy n A m o i = (sq n A m (af n i o)).length := if_pos (by rw [h1, h2]; rfl)
    have mo := sn_mono (wy n A m o) (a := i + 1) (tb_R n) (by omega)
    have es : sn (wy n A m o) (i + 1) = sn (wy n A m o) i + wy n A m o i := rfl
    show sn (wy n A m o) i + ixq n A m (af n i o) t < _
    omega
theorem ix_get {n : Nat} {A : Nat → Nat → Bool} : ∀ {m o : Nat} {s : List Nat}, Vp n A m o s → (sq n A m o)[ixq n A m o s]? = some s
  | 0, o, s, h => by
    obtain ⟨rfl, h⟩ := h
    unfold sq
    rw [if_pos h]
    rfl
  | m + 1, o, [], h => h.elim
  | m + 1, o, i :: t, h => by
    have hl := ix_lt h.2.2.2
    have ih := ix_get h.2.2.2
    obtain ⟨hi, h1, h2, h3⟩ := h
    have hc : (ok n i o && A (n - 1 - m) i) = true := by rw [h1, h2]; rfl
    have e : wy n A m o i = (sq n A m (af n i o)).length := if_pos hc
    have es : sn (wy n A m o) (i + 1) = sn (wy n A m o) i + wy n A m o i := rfl
    have hfun : (fun i => (sg n A m o i).length) = wy n A m o := funext (fun i => sg_len n A m o i)
    have g := lr_get (sg n A m o) (tb_R n) i (sn (wy n A m o) i + ixq n A m (af n i o) t) hi (by rw [hfun]; omega) (by rw [hfun]; omega)
    rw [hfun, ← sq_s, show sn (wy n A m o) i + ixq n A m (af n i o) t - sn (wy n A m o) i = ixq n A m (af n i o) t by omega] at g
    show (sq n A (m + 1) o)[sn (wy n A m o) i + ixq n A m (af n i o) t]? = _
    rw [g]
    unfold sg
    rw [if_pos hc, List.getElem?_map, ih]
    rfl
theorem sn_find (f : Nat → Nat) : ∀ (R k : Nat), k < sn f R → ∃ i, i < R ∧ sn f i ≤ k ∧ k < sn f (i + 1)
  | 0, k, h => absurd h (by show ¬ k < 0; omega)
  | R + 1, k, h => by
    by_cases c : k < sn f R
    · obtain ⟨i, a, b, d⟩ := sn_find f R k c
      exact ⟨i, by omega, b, d⟩
    · exact ⟨R, by omega, by omega, h⟩
/-- each square stands once -/
theorem sq_once {n : Nat} {A : Nat → Nat → Bool} : ∀ {m o j : Nat} {s : List Nat}, (sq n A m o)[j]? = some s → j = ixq n A m o s
  | 0, o, j, s, h => by
    unfold sq at h
    by_cases c : o = 2 ^ n - 1
    · rw [if_pos c] at h
      have := (List.getElem?_eq_some_iff.mp h).1
      have e : j = 0 := by
        rw [List.length_singleton] at this
        omega
      rw [e]
      cases s <;> rfl
    · rw [if_neg c] at h
      cases h
  | m + 1, o, j, s, h => by
    have hl := (List.getElem?_eq_some_iff.mp h).1
    rw [sq_len] at hl
    obtain ⟨i, hi, a, b⟩ := sn_find _ _ _ hl
    have es : sn (wy n A m o) (i + 1) = sn (wy n A m o) i + wy n A m o i := rfl
    have hfun : (fun i => (sg n A m o i).length) = wy n A m o := funext (fun i => sg_len n A m o i)
    have g := lr_get (sg n A m o) (tb_R n) i j hi (by rw [hfun]; exact a) (by rw [hfun]; exact b)
    rw [hfun, ← sq_s, h] at g
    obtain ⟨t, g1, g2, g3⟩ := sg_get (n := n) (A := A) (m := m) (o := o) (i := i) (k := j - sn (wy n A m o) i) (by omega)
    rw [g3] at g
    cases g
    have ih := sq_once g2
    show j = sn (wy n A m o) i + ixq n A m (af n i o) t
    omega
/-! counts through a row -/
def Tq (n : Nat) (A : Nat → Nat → Bool) (p : Nat → Bool) (m d o : Nat) : Nat := (sq n A m o).countP (fun s => p (s.getD d 0))
theorem Tq_s {n : Nat} {A : Nat → Nat → Bool} {p : Nat → Bool} {m d o : Nat} : Tq n A p (m + 1) (d + 1) o = sn (fun i => if ok n i o && A (n - 1 - m) i then Tq n A p m d (af n i o) else 0) (tb_R n) := by
  unfold Tq
  rw [sq_s, lr_cnt]
  refine sn_ext _ (fun i _ => ?_)
  unfold sg
  by_cases c : (ok n i o && A (n - 1 - m) i) = true
  · rw [if_pos c, if_pos c, List.countP_map]
    rfl
  · rw [if_neg c, if_neg c]; rfl
theorem Tq_0 {n : Nat} {A : Nat → Nat → Bool} {p : Nat → Bool} {m o : Nat} : Tq n A p (m + 1) 0 o = sn (fun i => if p i = true then wy n A m o i else 0) (tb_R n) := by
  unfold Tq
  rw [sq_s, lr_cnt]
  refine sn_ext _ (fun i _ => ?_)
  unfold sg wy
  by_cases c : (ok n i o && A (n - 1 - m) i) = true
  · rw [if_pos c, if_pos c, List.countP_map]
    by_cases q : p i = true
    · rw [if_pos q]
      apply List.countP_eq_length.mpr
      intro s _
      exact q
    · rw [if_neg q]
      apply List.countP_eq_zero.mpr
      intro s _
      exact q
  · rw [if_neg c, if_neg c]
    by_cases q : p i = true
    · rw [if_pos q]; rfl
    · rw [if_neg q]; rfl
theorem Tq_st {n : Nat} {A : Nat → Nat → Bool} {p : Nat → Bool} (h5 : n ≤ 5) {q d : Nat} (hq : q < n) : sn (fun o => av n A q o * Tq n A p (n - q) (d + 1) o) 32 = sn (fun o => av n A (q + 1) o * Tq n A p (n - (q + 1)) d o) 32 := by
  have hR := tb_R16 h5
  have em : n - q = (n - (q + 1)) + 1 := by omega
  have em2 : n - 1 - (n - (q + 1)) = q := by omega
  have e1 : ∀ o, o < 32 → av n A q o * Tq n A p (n - q) (d + 1) o = sn (fun i => if ok n i o && A q i then av n A q o * Tq n A p (n - (q + 1)) d (af n i o) else 0) (tb_R n) := by
    intro o _
    rw [em, Tq_s, em2, ← sn_mul]
    refine sn_ext _ (fun i _ => ?_)
    by_cases c : (ok n i o && A q i) = true
    · rw [if_pos c, if_pos c]
    · rw [if_neg c, if_neg c, Nat.mul_zero]
  have e2 : ∀ o', o' < 32 → av n A (q + 1) o' * Tq n A p (n - (q + 1)) d o' = sn (fun i => sn (fun o => if ok n i o && A q i then (if af n i o = o' then av n A q o * Tq n A p (n - (q + 1)) d o' else 0) else 0) 32) (tb_R n) := by
    intro o' _
    show sn (fun i => sn (fun o => if ok n i o && (A q i && (af n i o == o')) then av n A q o else 0) 32) (tb_R n) * _ = _
    rw [← sn_mulr]
    refine sn_ext _ (fun i _ => ?_)
    show sn (fun o => if ok n i o && (A q i && (af n i o == o')) then av n A q o else 0) 32 * _ = _
    rw [← sn_mulr]
    refine sn_ext _ (fun o _ => ?_)
    show (if ok n i o && (A q i && (af n i o == o')) then av n A q o else 0) * _ = _
    by_cases c : (ok n i o && A q i) = true
    · rw [if_pos c]
      rw [Bool.and_eq_true] at c
      rw [c.1, c.2]
      by_cases c2 : af n i o = o'
      · rw [if_pos c2, if_pos (by rw [c2]; simp)]
      · rw [if_neg c2, if_neg (by simp [c2]), Nat.zero_mul]
    · rw [if_neg c, if_neg (fun z => c (by
        rw [Bool.and_eq_true, Bool.and_eq_true] at z
        rw [Bool.and_eq_true]
        exact ⟨z.1, z.2.1⟩)), Nat.zero_mul]
  rw [sn_ext 32 e1, sn_ext 32 e2]
  refine (sn_comm _ _ _).trans (Eq.trans ?_ (sn_comm _ _ _).symm)
  refine sn_ext _ (fun i hi => ?_)
  refine Eq.trans ?_ (sn_comm _ _ _).symm
  refine sn_ext _ (fun o ho => ?_)
  by_cases c : (ok n i o && A q i) = true
  · rw [if_pos c]
    have e3 : sn (fun o' => if ok n i o && A q i then (if af n i o = o' then av n A q o * Tq n A p (n - (q + 1)) d o' else 0) else 0) 32 = sn (fun o' => if af n i o = o' then av n A q o * Tq n A p (n - (q + 1)) d o' else 0) 32 := sn_ext _ (fun o' _ => if_pos c)
    rw [e3, sn_one (fun o' => av n A q o * Tq n A p (n - (q + 1)) d o'), if_pos (af_lt h5 (by omega) ho)]
  · rw [if_neg c]
    exact (sn_zero 32 (fun o' _ => if_neg c)).symm
theorem Tq_all {n : Nat} {A : Nat → Nat → Bool} {p : Nat → Bool} (h5 : n ≤ 5) : ∀ (d q : Nat), q + d < n → sn (fun o => av n A q o * Tq n A p (n - q) d o) 32 = sn (fun o => av n A (q + d) o * Tq n A p (n - (q + d)) 0 o) 32
  | 0, q, _ => rfl
  | d + 1, q, h => by
    rw [Tq_st h5 (by omega), Tq_all h5 d (q + 1) (by omega), show q + 1 + d = q + (d + 1) by omega]
theorem Tq_top {n : Nat} {A : Nat → Nat → Bool} {p : Nat → Bool} (h5 : n ≤ 5) {r : Nat} (hr : r < n) :
    (sq n A n 0).countP (fun s => p (s.getD r 0)) = sn (fun i => if p i = true then sn (fun o => av n A r o * wy n A (n - 1 - r) o i) 32 else 0) (tb_R n) := by
  have h := Tq_all (A := A) (p := p) h5 r 0 (by omega)
  rw [Nat.zero_add, Nat.sub_zero] at h
  have e0 : sn (fun o => av n A 0 o * Tq n A p n r o) 32 = Tq n A p n r 0 := by
    have : sn (fun o => av n A 0 o * Tq n A p n r o) 32 = sn (fun o => if 0 = o then Tq n A p n r o else 0) 32 := sn_ext _ (fun o _ => by
      show (if o = 0 then 1 else 0) * _ = _
      by_cases c : o = 0
      · rw [if_pos c, if_pos c.symm, Nat.one_mul]
      · rw [if_neg c, if_neg (fun z => c z.symm), Nat.zero_mul])
    rw [this, sn_one, if_pos (by decide)]
  rw [e0] at h
  show Tq n A p n r 0 = _
  rw [h, show n - r = (n - 1 - r) + 1 by omega]
  have e1 : ∀ o, o < 32 → av n A r o * Tq n A p (n - 1 - r + 1) 0 o = sn (fun i => if p i = true then av n A r o * wy n A (n - 1 - r) o i else 0) (tb_R n) := by
    intro o _
    rw [Tq_0, ← sn_mul]
    refine sn_ext _ (fun i _ => ?_)
    by_cases c : p i = true
    · rw [if_pos c, if_pos c]
    · rw [if_neg c, if_neg c, Nat.mul_zero]
  rw [sn_ext 32 e1, sn_comm]
  refine sn_ext _ (fun i _ => ?_)
  by_cases c : p i = true
  · rw [if_pos c]
    exact sn_ext _ (fun o _ => if_pos c)
  · rw [if_neg c]
    exact sn_zero _ (fun o _ => if_neg c)
end
section
/-! the relation -/
def HM (n : Nat) (M : Nat → Nat → Int) (hd yh : Nat → Int32) : Prop := ∀ r, r < n → ∀ c, c < n → (-1 ≤ M r c ∧ M r c ≤ 1) ∧ hd (5 * r + c) = iz_n (M r c) ∧ yh (5 * r + c) = iz_n (M r c)
/-- the size; the component's rows are the tables; what is allowed is the same; the counts are right if they are known; the squares at hand are the same -/
def i_Rel (k : Nat) (u : SX) (v : SY) : Prop := match u, v with
  | (fn, fr, fk, _, _, _, pl, mi, al, hd, be, ab, bw, _, _, _, _, _), (sz, _, al', yh, _, _, _, _) =>
    ∃ (n : Nat) (M : Nat → Nat → Int), 1 ≤ n ∧ n ≤ 5 ∧ fn = nI n ∧ fr = nI (tb_R n) ∧ pl = tP n ∧ mi = tM n ∧ sz = nI n ∧ al' = al ∧ (fk = 0 ∨ KN n al be ab bw) ∧ HM n M hd yh
theorem i_up {k : Nat} {u : SX} {v : SY} (h : i_Rel k u v) : i_Rel (k + 4) u v := h
section
variable {n : Nat} {fk ar ac cb : Int32} {al hd be ab bw wk fl fa co se : Nat → Int32} {dp : Int32} {yh ys yf yo yp : Nat → Int32}
theorem rel_i {k : Nat} {M : Nat → Nat → Int} (h1 : 1 ≤ n) (h5 : n ≤ 5) (hK : fk = 0 ∨ KN n al be ab bw) (hM : HM n M hd yh) : i_Rel k ((nI n), (nI (tb_R n)), fk, ar, ac, cb, (tP n), (tM n), al, hd, be, ab, bw, wk, fl, fa, co, se) ((nI n), dp, al, yh, ys, yf, yo, yp) :=
  ⟨n, M, h1, h5, rfl, rfl, rfl, rfl, rfl, rfl, hK, hM⟩
end
theorem rel_e {k : Nat} {u : SX} {v : SY} {P : SX → SY → Prop}
    (h : ∀ (n : Nat) (M : Nat → Nat → Int) (fk ar ac cb : Int32) (al hd be ab bw wk fl fa co se : Nat → Int32) (dp : Int32) (yh ys yf yo yp : Nat → Int32), 1 ≤ n → n ≤ 5 → (fk = 0 ∨ KN n al be ab bw) → HM n M hd yh → P ((nI n), (nI (tb_R n)), fk, ar, ac, cb, (tP n), (tM n), al, hd, be, ab, bw, wk, fl, fa, co, se) ((nI n), dp, al, yh, ys, yf, yo, yp))
    (I : i_Rel k u v) : P u v := by
  obtain ⟨fn, fr, fk, ar, ac, cb, pl, mi, al, hd, be, ab, bw, wk, fl, fa, co, se⟩ := u
  obtain ⟨sz, dp, al', yh, ys, yf, yo, yp⟩ := v
  obtain ⟨n, M, h1, h5, e1, e2, e3, e4, e5, e6, hK, hM⟩ := I
  subst e1 e2 e3 e4 e5 e6
  exact h n M fk ar ac cb al' hd be ab bw wk fl fa co se dp yh ys yf yo yp h1 h5 hK hM
section
variable {n : Nat} {dp : Int32} {al yh ys yf yo yp : Nat → Int32}
theorem y_isP {post : Int32 → Prop} {p q : Int32} (h5 : n ≤ 5) (H1 : isp n p q → post 1) (H0 : ¬ isp n p q → post 0) : wpY_isPlace post ((nI n), dp, al, yh, ys, yf, yo, yp) p q :=
  br_c (fun h => H0 (isp_no h5 (Or.inl h))) (fun a => br_c (fun h => H0 (isp_no h5 (Or.inr (Or.inl h)))) (fun b => br_c (fun h => H0 (isp_no h5 (Or.inr (Or.inr (Or.inl h))))) (fun c => br_c (fun h => H0 (isp_no h5 (Or.inr (Or.inr (Or.inr h))))) (fun d => H1 (isp_yes h5 a b c d)))))
end
theorem i_vc0 (k0 : Int32) : wpX_init (fun u => wpY_init (fun v => i_Rel 1 u v) k0) k0 := by
  have F : ∀ n : Nat, 1 ≤ n → n ≤ 5 → ∀ (Q : SX → Prop), (∀ (post : SY → Prop), post (nI n, 0, a7 25, (fun _ => 0), (fun _ => 0), (fun _ => 0), (fun _ => 0), (fun _ => 0)) → ∃ q, wY_init_77 post (nI n) 0 q 0 (fun _ => 0) (fun _ => 0) (fun _ => 0) (fun _ => 0) (fun _ => 0) (fun _ => 0)) := by
    intro n h1 h5 _ post H
    have := y_in77 (n := n) (dp := 0) (post := post) (yh := fun _ => 0) (ys := fun _ => 0) (yf := fun _ => 0) (yo := fun _ => 0) (yp := fun _ => 0) H 25 0 (by omega)
    rw [a7_0] at this
    exact ⟨_, this⟩
  have G : ∀ n : Nat, 1 ≤ n → n ≤ 5 → ∀ (post : SX → Prop), post (nI n, nI (tb_R n), 0, 0, 0, 0, tP n, tM n, a7 25, (fun _ => 0), (fun _ => 0), (fun _ => 0), (fun _ => 0), (fun _ => 0), (fun _ => 0), (fun _ => 0), (fun _ => 0), (fun _ => 0)) → ∃ q, wX_init_128 post (nI n) 0 0 0 0 0 q 0 (fun _ => 0) (fun _ => 0) (fun _ => 0) (fun _ => 0) (fun _ => 0) (fun _ => 0) (fun _ => 0) (fun _ => 0) (fun _ => 0) (fun _ => 0) (fun _ => 0) (fun _ => 0) := by
    intro n h1 h5 post H
    have := x_in128 (n := n) (fk := 0) (ar := 0) (ac := 0) (cb := 0) (post := post) (hd := fun _ => 0) (be := fun _ => 0) (ab := fun _ => 0) (bw := fun _ => 0) (wk := fun _ => 0) (fl := fun _ => 0) (fa := fun _ => 0) (co := fun _ => 0) (se := fun _ => 0) h1 h5 H 25 0 (by omega)
    rw [a7_0] at this
    exact ⟨_, this⟩
  have R : ∀ n : Nat, 1 ≤ n → n ≤ 5 → i_Rel 1 (nI n, nI (tb_R n), 0, 0, 0, 0, tP n, tM n, a7 25, (fun _ => 0), (fun _ => 0), (fun _ => 0), (fun _ => 0), (fun _ => 0), (fun _ => 0), (fun _ => 0), (fun _ => 0), (fun _ => 0)) (nI n, 0, a7 25, (fun _ => 0), (fun _ => 0), (fun _ => 0), (fun _ => 0), (fun _ => 0)) :=
    fun n h1 h5 => rel_i (M := fun _ _ => 0) h1 h5 (Or.inl rfl) (fun r _ c _ => ⟨(by show (-1 : Int) ≤ 0 ∧ (0 : Int) ≤ 1; decide), rfl, rfl⟩)
  by_cases a : 1 ≤ k0
  · have a0 : ¬ k0 < 0 := fun z => by
      rw [Int32.le_iff_toInt_le, show (1 : Int32).toInt = 1 by decide] at a
      rw [Int32.lt_iff_toInt_lt, show (0 : Int32).toInt = 0 by decide] at z
      omega
    obtain ⟨n, hn, rfl⟩ := nI_of a0
    have h1 : 1 ≤ n := (nI_leI (a := 1) (by omega) hn).mp a
    by_cases b : nI n ≤ 5
    · have h5 : n ≤ 5 := (nI_leI (b := 5) hn (by omega)).mp b
      refine br_t a (br_t b (G n h1 h5 _ (br_t a (br_t b (F n h1 h5 (fun _ => True) _ (R n h1 h5))))))
    · refine br_t a (br_f b (G 5 (by omega) (by omega) _ (br_t a (br_f b (F 5 (by omega) (by omega) (fun _ => True) _ (R 5 (by omega) (by omega)))))))
  · exact br_f a (G 1 (by omega) (by omega) _ (br_f a (F 1 (by omega) (by omega) (fun _ => True) _ (R 1 (by omega) (by omega)))))
theorem i_vc_allow {k : Nat} {u : SX} {v : SY} (I : i_Rel k u v) (hk : k + 4 ≤ 2049) (v1 : Int32) (v2 : Int32) (v3 : Int32) : wpX_allow (fun r u' => wpY_allow (fun r' v' => r' = r ∧ i_Rel (k + 4) u' v') v v1 v2 v3) u v1 v2 v3 := by
  refine rel_e (P := fun u v => wpX_allow (fun r u' => wpY_allow (fun r' v' => r' = r ∧ i_Rel (k + 4) u' v') v v1 v2 v3) u v1 v2 v3) ?_ I
  intro n M fk ar ac cb al hd be ab bw wk fl fa co se dp yh ys yf yo yp h1 h5 hK hM
  unfold wpX_allow wpY_allow
  dsimp only
  refine x_isP h5 (fun z => br_f (by decide) ?_) (fun z => br_t rfl (y_isP h5 (fun z2 => absurd z2 z) (fun _ => br_t rfl ⟨rfl, rel_i h1 h5 hK hM⟩)))
  by_cases a : v3 < 1
  · exact br_t a (y_isP h5 (fun _ => br_f (by decide) (br_t a ⟨rfl, rel_i h1 h5 hK hM⟩)) (fun z2 => absurd z z2))
  · by_cases b : v3 ≤ 7
    · obtain ⟨r, c, hr, hc, rfl, rfl⟩ := z
      refine br_f a (br_t b (x_pl ?_))
      refine ⟨bq_in (by omega) (by omega), nm_e (x_pl ⟨bq_in (by omega) (by omega), nm_e ?_⟩)⟩
      refine y_isP h5 (fun _ => br_f (by decide) (br_f a (br_t b ?_))) (fun z2 => absurd ⟨r, c, hr, hc, rfl, rfl⟩ z2)
      rw [bq_pl]
      refine ⟨bq_in (by omega) (by omega), nm_e ⟨bq_in (by omega) (by omega), nm_e ⟨rfl, ?_⟩⟩⟩
      exact rel_i h1 h5 (Or.inl rfl) hM
    · exact br_f a (br_f b (y_isP h5 (fun _ => br_f (by decide) (br_f a (br_f b ⟨rfl, rel_i h1 h5 hK hM⟩))) (fun z2 => absurd z z2)))
theorem iz_ex {x : Int32} (a : ¬ x < -1) (b : x ≤ 1) : ∃ v : Int, -1 ≤ v ∧ v ≤ 1 ∧ x = iz_n v := by
  rw [Int32.lt_iff_toInt_lt, show (-1 : Int32).toInt = -1 by decide] at a
  rw [Int32.le_iff_toInt_le, show (1 : Int32).toInt = 1 by decide] at b
  exact ⟨x.toInt, by omega, b, (Int32.ofInt_toInt x).symm⟩
theorem i_vc_put {k : Nat} {u : SX} {v : SY} (I : i_Rel k u v) (hk : k + 4 ≤ 2049) (v1 : Int32) (v2 : Int32) (v3 : Int32) : wpX_put (fun r u' => wpY_put (fun r' v' => r' = r ∧ i_Rel (k + 4) u' v') v v1 v2 v3) u v1 v2 v3 := by
  refine rel_e (P := fun u v => wpX_put (fun r u' => wpY_put (fun r' v' => r' = r ∧ i_Rel (k + 4) u' v') v v1 v2 v3) u v1 v2 v3) ?_ I
  intro n M fk ar ac cb al hd be ab bw wk fl fa co se dp yh ys yf yo yp h1 h5 hK hM
  unfold wpX_put wpY_put
  dsimp only
  refine x_isP h5 (fun z => br_f (by decide) ?_) (fun z => br_t rfl (y_isP h5 (fun z2 => absurd z2 z) (fun _ => br_t rfl ⟨rfl, rel_i h1 h5 hK hM⟩)))
  by_cases a : v3 < -1
  · exact br_t a (y_isP h5 (fun _ => br_f (by decide) (br_t a ⟨rfl, rel_i h1 h5 hK hM⟩)) (fun z2 => absurd z z2))
  · by_cases b : v3 ≤ 1
    · obtain ⟨r, c, hr, hc, rfl, rfl⟩ := z
      obtain ⟨w, w1, w2, rfl⟩ := iz_ex a b
      refine br_f a (br_t b (x_pl ?_))
      refine ⟨bq_in (by omega) (by omega), nm_e ?_⟩
      refine y_isP h5 (fun _ => br_f (by decide) (br_f a (br_t b ?_))) (fun z2 => absurd ⟨r, c, hr, hc, rfl, rfl⟩ z2)
      rw [bq_pl]
      refine ⟨bq_in (by omega) (by omega), nm_e ⟨rfl, ?_⟩⟩
      rw [bq_cl (by omega)]
      refine rel_i (M := fun r' c' => if r' = r ∧ c' = c then w else M r' c') h1 h5 hK (fun r' hr' c' hc' => ?_)
      dsimp only
      by_cases q : r' = r ∧ c' = c
      · rw [if_pos q, q.1, q.2, pk_us, pk_us]
        exact ⟨⟨w1, w2⟩, rfl, rfl⟩
      · rw [if_neg q, pk_un (by omega), pk_un (by omega)]
        exact hM r' hr' c' hc'
    · exact br_f a (br_f b (y_isP h5 (fun _ => br_f (by decide) (br_f a (br_f b ⟨rfl, rel_i h1 h5 hK hM⟩))) (fun z2 => absurd z z2)))
section
variable {n : Nat} {fk ar ac cb : Int32} {al hd be ab bw wk fl fa co se : Nat → Int32} {dp : Int32} {yh ys yf yo yp : Nat → Int32}
theorem x_ld14 {post : Int32 → SX → Prop} (H : ∀ W : Nat → Int32, (∀ p, p < 25 → W p = wk p) → post 1 ((nI n), (nI (tb_R n)), fk, ar, ac, cb, (tP n), (tM n), al, W, be, ab, bw, wk, fl, fa, co, se)) :
    ∀ (k p : Nat) (W : Nat → Int32), p + k = 25 → (∀ q, q < p → W q = wk q) → wX_load_14 post (nI n) (nI (tb_R n)) fk ar ac cb (k + 1) (nI p) (tP n) (tM n) al W be ab bw wk fl fa co se
  | 0, p, W, h, hW => by
    have e : p = 25 := by omega
    subst e
    exact pk_le 25 25 (fun _ => H W hW) (fun z => absurd z (by omega))
  | k + 1, p, W, h, hW => by
    refine pk_le 25 p (fun z => absurd z (by omega)) (fun hp => ⟨bq_in hp (by omega), bq_in hp (by omega), ?_⟩)
    rw [bq_cl (by omega)]
    refine nm_e (nm_r (nI_1 p) (x_ld14 H k (p + 1) _ (by omega) (fun q hq => ?_)))
    by_cases c : q = p
    · subst c; exact pk_us
    · rw [pk_un c]; exact hW q (by omega)
theorem y_ld12 {post : Int32 → SY → Prop} (H : ∀ W : Nat → Int32, (∀ p, p < 25 → W p = yf p) → post 1 ((nI n), dp, al, W, ys, yf, yo, yp)) :
    ∀ (k p : Nat) (W : Nat → Int32), p + k = 25 → (∀ q, q < p → W q = yf q) → wY_load_12 post (nI n) dp (k + 1) (nI p) al W ys yf yo yp
  | 0, p, W, h, hW => by
    have e : p = 25 := by omega
    subst e
    exact pk_le 25 25 (fun _ => H W hW) (fun z => absurd z (by omega))
  | k + 1, p, W, h, hW => by
    refine pk_le 25 p (fun z => absurd z (by omega)) (fun hp => ⟨bq_in hp (by omega), bq_in hp (by omega), ?_⟩)
    rw [bq_cl (by omega)]
    refine nm_e (nm_r (nI_1 p) (y_ld12 H k (p + 1) _ (by omega) (fun q hq => ?_)))
    by_cases c : q = p
    · subst c; exact pk_us
    · rw [pk_un c]; exact hW q (by omega)
end
theorem no_some {α : Type} {x : Option α} {s : α} {P : Prop} (a : x = none) (b : x = some s) : P := by
  rw [a] at b; cases b
theorem i_vc_load {k : Nat} {u : SX} {v : SY} (I : i_Rel k u v) (hk : k + 4 ≤ 2049) (v1 : Int32) : wpX_load (fun r u' => wpY_load (fun r' v' => r' = r ∧ i_Rel (k + 4) u' v') v v1) u v1 := by
  refine rel_e (P := fun u v => wpX_load (fun r u' => wpY_load (fun r' v' => r' = r ∧ i_Rel (k + 4) u' v') v v1) u v1) ?_ I
  intro n M fk ar ac cb al hd be ab bw wk fl fa co se dp yh ys yf yo yp h1 h5 hK hM
  unfold wpX_load wpY_load
  dsimp only
  refine x_lay h1 h5 hK (fun hn fk' be' ab' bw' hK' => br_t rfl ?_) (fun s hs fk' be' ab' bw' W FL FA hK' hW _ => br_f (by decide) (Exists.intro 26 (x_ld14 (fun W' hW' => ?_) 25 0 hd (by omega) (fun q hq => absurd hq (by omega)))))
  · exact y_find h1 h5 (fun _ d zs => br_t rfl ⟨rfl, rel_i h1 h5 (Or.inr hK') hM⟩) (fun s hs => no_some hn hs)
  · refine y_find h1 h5 (fun z => no_some z hs) (fun s' hs' d zs F hF => br_f (by decide) (Exists.intro 26 (y_ld12 (fun W2 hW2 => ⟨rfl, ?_⟩) 25 0 yh (by omega) (fun q hq => absurd hq (by omega)))))
    rw [hs] at hs'
    cases hs'
    refine rel_i (M := mt n s) h1 h5 (Or.inr hK') (fun r hr c hc => ⟨en_r _ _ _, ?_, ?_⟩)
    · rw [hW' _ (by omega)]; exact hW r hr c hc
    · rw [hW2 _ (by omega)]; exact hF r hr c hc
theorem i_vc_entry {k : Nat} {u : SX} {v : SY} (I : i_Rel k u v) (hk : k + 4 ≤ 2049) (v1 : Int32) (v2 : Int32) (v3 : Int32) : wpX_entry (fun r u' => wpY_entry (fun r' v' => r' = r ∧ i_Rel (k + 4) u' v') v v1 v2 v3) u v1 v2 v3 := by
  refine rel_e (P := fun u v => wpX_entry (fun r u' => wpY_entry (fun r' v' => r' = r ∧ i_Rel (k + 4) u' v') v v1 v2 v3) u v1 v2 v3) ?_ I
  intro n M fk ar ac cb al hd be ab bw wk fl fa co se dp yh ys yf yo yp h1 h5 hK hM
  unfold wpX_entry wpY_entry
  dsimp only
  refine x_lay h1 h5 hK (fun hn fk' be' ab' bw' hK' => br_t rfl ?_) (fun s hs fk' be' ab' bw' W FL FA hK' hW _ => br_f (by decide) ?_)
  · exact y_find h1 h5 (fun _ d zs => br_t rfl ⟨rfl, rel_i h1 h5 (Or.inr hK') hM⟩) (fun s hs => no_some hn hs)
  · refine x_isP h5 (fun z => br_f (by decide) ?_) (fun z => br_t rfl ?_)
    · obtain ⟨r, c, hr, hc, rfl, rfl⟩ := z
      refine x_pl ⟨bq_in (by omega) (by omega), ?_⟩
      refine y_find h1 h5 (fun z => no_some z hs) (fun s' hs' d zs F hF => br_f (by decide) (y_isP h5 (fun _ => br_f (by decide) ?_) (fun z2 => absurd ⟨r, c, hr, hc, rfl, rfl⟩ z2)))
      rw [hs] at hs'
      cases hs'
      rw [bq_pl]
      refine ⟨bq_in (by omega) (by omega), ?_, rel_i h1 h5 (Or.inr hK') hM⟩
      rw [bq_cl (by omega)]
      show F (5 * r + c) = W (5 * r + c)
      rw [hF r hr c hc, hW r hr c hc]
    · exact y_find h1 h5 (fun z => no_some z hs) (fun s' hs' d zs F hF => br_f (by decide) (y_isP h5 (fun z2 => absurd z2 z) (fun _ => br_t rfl ⟨rfl, rel_i h1 h5 (Or.inr hK') hM⟩)))
end
section
/-! counts and sums over all squares -/
theorem sn_split (f : Nat → Nat) (a : Nat) : ∀ b : Nat, sn f (a + b) = sn f a + sn (fun i => f (a + i)) b
  | 0 => rfl
  | b + 1 => by
    show sn f (a + b) + f (a + b) = sn f a + (sn (fun i => f (a + i)) b + f (a + b))
    rw [sn_split f a b]; omega
theorem sn_prod (f : Nat → Nat) (b : Nat) : ∀ a : Nat, sn f (b * a) = sn (fun r => sn (fun c => f (b * r + c)) b) a
  | 0 => rfl
  | a + 1 => by
    rw [Nat.mul_succ, sn_split, sn_prod f b a]
    rfl
theorem ng_sum (n : Nat) : ∀ s : List Nat, sn (fun r => nn n (s.getD r 0)) s.length = ng n s
  | [] => rfl
  | i :: s => by
    rw [List.length_cons, Nat.add_comm, sn_split]
    have e1 : sn (fun r => nn n ((i :: s).getD r 0)) 1 = nn n i := by
      show 0 + nn n i = _
      omega
    have e2 : sn (fun r => nn n ((i :: s).getD (1 + r) 0)) s.length = sn (fun r => nn n (s.getD r 0)) s.length := sn_ext _ (fun r _ => by
      show nn n ((i :: s).getD (1 + r) 0) = _
      rw [Nat.add_comm 1 r]; rfl)
    rw [e1, e2, ng_sum n s]
    rfl
def hG (n : Nat) (s : List Nat) (d : Nat) : Int := mt n s (d / n) (d % n)
theorem hG_sum {n : Nat} {s : List Nat} (h1 : 1 ≤ n) (h5 : n ≤ 5) (hO : OK n s) : sn (fun d => if hG n s d = -1 then 1 else 0) (n * n) = ng n s := by
  rw [sn_prod, ← ng_sum, hO.1]
  refine sn_ext _ (fun r hr => ?_)
  rw [← nn_en n (by omega) _ (hO.2 r hr)]
  refine sn_ext _ (fun c hc => ?_)
  have e : hG n s (n * r + c) = en n (s.getD r 0) c := by
    unfold hG
    rw [Nat.mul_comm, mu_div r hc, mu_mod r hc]
    rfl
  rw [e]
theorem sh_pa {n : Nat} {s : List Nat} {zs : Nat → Int32} (h1 : 1 ≤ n) (h5 : n ≤ 5) (h : Sh n s zs) {d : Nat} (hd : d < n * n) : zs (pa n d) = iz_n (hG n s d) := h _ (sz_sq h5 hd).2 _ (Nat.mod_lt d (by omega))
def pwr (x : Int32) : Nat → Int32
  | 0 => 1
  | k + 1 => pwr x k * x
def wsm (x : Int32) (f : Nat → Nat) : Nat → Int32
  | 0 => 0
  | j + 1 => wsm x f j + nI (f j) * pwr x j
theorem wsm_add (x : Int32) (f g : Nat → Nat) : ∀ k : Nat, wsm x (fun j => f j + g j) k = wsm x f k + wsm x g k
  | 0 => rfl
  | k + 1 => by
    show wsm x (fun j => f j + g j) k + nI (f k + g k) * pwr x k = (wsm x f k + nI (f k) * pwr x k) + (wsm x g k + nI (g k) * pwr x k)
    rw [wsm_add x f g k, ← nI_add]
    generalize wsm x f k = a
    generalize wsm x g k = b
    generalize nI (f k) = c
    generalize nI (g k) = d
    generalize pwr x k = e
    grind
theorem wsm_ext (x : Int32) {f g : Nat → Nat} : ∀ k : Nat, (∀ j, j < k → f j = g j) → wsm x f k = wsm x g k
  | 0, _ => rfl
  | k + 1, h => by
    show wsm x f k + nI (f k) * pwr x k = wsm x g k + nI (g k) * pwr x k
    rw [wsm_ext x k (fun j hj => h j (by omega)), h k (by omega)]
theorem wsm_1 (x : Int32) (a : Nat) : ∀ k : Nat, wsm x (fun j => if a = j then 1 else 0) k = if a < k then pwr x a else 0
  | 0 => rfl
  | k + 1 => by
    show wsm x (fun j => if a = j then 1 else 0) k + nI (if a = k then 1 else 0) * pwr x k = _
    rw [wsm_1 x a k]
    by_cases c : a = k
    · subst c
      rw [if_neg (by omega), if_pos rfl, if_pos (by omega)]
      show (0 : Int32) + 1 * pwr x a = pwr x a
      generalize pwr x a = e
      grind
    · rw [if_neg c]
      by_cases d : a < k
      · rw [if_pos d, if_pos (by omega)]
        show pwr x a + 0 * pwr x k = pwr x a
        generalize pwr x a = e
        generalize pwr x k = e'
        grind
      · rw [if_neg d, if_neg (by omega)]
        show (0 : Int32) + 0 * pwr x k = 0
        generalize pwr x k = e'
        grind
def ysm (n : Nat) (x : Int32) : List (List Nat) → Int32 → Int32
  | [], a => a
  | s :: L, a => ysm n x L (a + pwr x (ng n s))
theorem ysm_w (n : Nat) (x : Int32) : ∀ (L : List (List Nat)) (a : Int32), (∀ s, s ∈ L → ng n s < 5) → ysm n x L a = a + wsm x (fun j => L.countP (fun s => ng n s == j)) 5
  | [], a, _ => by
    have : wsm x (fun j => ([] : List (List Nat)).countP (fun s => ng n s == j)) 5 = wsm x (fun j => 0) 5 := rfl
    rw [this]
    have z : ∀ k, wsm x (fun _ => 0) k = 0 := fun k => by
      induction k with
      | zero => rfl
      | succ k ih =>
        show wsm x (fun _ => 0) k + 0 * pwr x k = 0
        rw [ih]
        generalize pwr x k = e
        grind
    rw [z]
    exact (Int32.add_zero a).symm
  | s :: L, a, h => by
    show ysm n x L (a + pwr x (ng n s)) = _
    rw [ysm_w n x L _ (fun t ht => h t (List.mem_cons_of_mem _ ht))]
    have e : wsm x (fun j => (s :: L).countP (fun s => ng n s == j)) 5 = wsm x (fun j => L.countP (fun s => ng n s == j) + if ng n s = j then 1 else 0) 5 := wsm_ext x 5 (fun j _ => by
      rw [List.countP_cons]
      by_cases c : ng n s = j
      · rw [if_pos c, if_pos (by rw [beq_iff_eq]; exact c)]
      · rw [if_neg c, if_neg (by rw [beq_iff_eq]; exact c)])
    rw [e, wsm_add, wsm_1, if_pos (h s (List.mem_cons_self ..))]
    generalize wsm x (fun j => L.countP (fun s => ng n s == j)) 5 = b
    generalize pwr x (ng n s) = c
    grind
section
variable {n : Nat} {dp : Int32} {al yh ys yf yo yp : Nat → Int32}
theorem y_neg4 {post : Int32 → Prop} {s : List Nat} (h1 : 1 ≤ n) (h5 : n ≤ 5) (hO : OK n s) (hs : Sh n s ys) (H : post (nI (ng n s))) :
    ∀ (k d : Nat), d + k = n * n → wY_negativesHere_4 post (nI n) dp al yh ys yf yo yp (k + 1) (nI (sn (fun d => if hG n s d = -1 then 1 else 0) d)) (nI d)
  | 0, d, h => by
    have hN := nn_le h5
    have e : d = n * n := by omega
    subst e
    refine pk_le (n * n) (n * n) (fun _ => ?_) (fun z => absurd z (by omega)) (hx := nI_sq n)
    rw [hG_sum h1 h5 hO]
    exact H
  | k + 1, d, h => by
    have hN := nn_le h5
    refine pk_le (n * n) d (fun z => absurd z (by omega)) (fun hd => y_pa h1 h5 (by omega) ?_) (hx := nI_sq n)
    have hp := pa_lt h1 h5 hd
    have hr := en_r n (s.getD (d / n) 0) (d % n)
    have e : hG n s d = en n (s.getD (d / n) 0) (d % n) := rfl
    rw [bq_cl (by omega), sh_pa h1 h5 hs hd]
    refine ⟨bq_in hp (by omega), iz_beq (hG n s d) (-1) (fun c => nm_r (e' := nI (sn (fun d => if hG n s d = -1 then 1 else 0) (d + 1))) ?_ (nm_r (nI_1 d) (y_neg4 h1 h5 hO hs H k (d + 1) (by omega)))) (fun c => nm_r (nI_1 d) ?_)⟩
    · rw [nI_1]
      show _ = nI (sn (fun d => if hG n s d = -1 then 1 else 0) d + if hG n s d = -1 then 1 else 0)
      rw [if_pos c]
    · have q := y_neg4 h1 h5 hO hs H k (d + 1) (by omega)
      have e2 : sn (fun d => if hG n s d = -1 then 1 else 0) (d + 1) = sn (fun d => if hG n s d = -1 then 1 else 0) d := by
        show sn (fun d => if hG n s d = -1 then 1 else 0) d + (if hG n s d = -1 then 1 else 0) = _
        rw [if_neg c]; rfl
      rw [e2] at q
      exact q
theorem y_neg {post : Int32 → Prop} {s : List Nat} (h1 : 1 ≤ n) (h5 : n ≤ 5) (hO : OK n s) (hs : Sh n s ys) (H : post (nI (ng n s))) : wpY_negativesHere post ((nI n), dp, al, yh, ys, yf, yo, yp) :=
  Exists.intro (n * n + 1) (y_neg4 h1 h5 hO hs H (n * n) 0 (by omega))
theorem y_cnt6 {post : Int32 → SY → Prop} (h1 : 1 ≤ n) (h5 : n ≤ 5) : ∀ (L : List (List Nat)) (a : Nat) (d : Int32) (zs : Nat → Int32), (∀ s, s ∈ L → OK n s) → YS n al L d zs →
    (∀ (d' : Int32) (zs' : Nat → Int32), post (nI (a + L.length)) ((nI n), d', al, yh, zs', yf, yo, yp)) → wY_count_6 post (L.length + 1) (nI a) (nI n) d al yh zs yf yo yp
  | L, a, d, zs, hO, I, H => by
    refine y_adv h1 h5 hO I (fun z d' zs' => br_t rfl ?_) (fun s L' e d' zs' I' hs => br_f (by decide) (nm_r (nI_1 a) ?_))
    · rw [z] at H
      exact H d' zs'
    · subst e
      exact y_cnt6 h1 h5 L' (a + 1) d' zs' (fun t ht => hO t (List.mem_cons_of_mem _ ht)) I' (fun d2 zs2 => by
        have := H d2 zs2
        rw [List.length_cons, show a + (L'.length + 1) = a + 1 + L'.length by omega] at this
        exact this)
  termination_by L => L.length
theorem y_ngs6 {post : Int32 → SY → Prop} {x1 : Int32} {p : List Nat → Bool} (h1 : 1 ≤ n) (h5 : n ≤ 5) : ∀ (L : List (List Nat)) (a : Nat) (d : Int32) (zs : Nat → Int32), (∀ s, s ∈ L → OK n s) → (∀ s, s ∈ L → (nI (ng n s) = x1 ↔ p s = true)) → YS n al L d zs →
    (∀ (d' : Int32) (zs' : Nat → Int32), post (nI (a + L.countP p)) ((nI n), d', al, yh, zs', yf, yo, yp)) → wY_negatives_6 post x1 (L.length + 1) (nI a) (nI n) d al yh zs yf yo yp
  | L, a, d, zs, hO, hp, I, H => by
    refine y_adv h1 h5 hO I (fun z d' zs' => br_t rfl ?_) (fun s L' e d' zs' I' hs => br_f (by decide) ?_)
    · rw [z] at H
      exact H d' zs'
    · subst e
      have IH := fun (a : Nat) => y_ngs6 (post := post) (x1 := x1) (p := p) h1 h5 L' a d' zs' (fun t ht => hO t (List.mem_cons_of_mem _ ht)) (fun t ht => hp t (List.mem_cons_of_mem _ ht)) I'
      refine y_neg h1 h5 (hO s (List.mem_cons_self ..)) hs (bq_if (hp s (List.mem_cons_self ..)) (fun c => nm_r (nI_1 a) (IH (a + 1) (fun d2 zs2 => ?_))) (fun c => IH a (fun d2 zs2 => ?_)))
      · have := H d2 zs2
        rw [List.countP_cons, if_pos c, show a + (L'.countP p + 1) = a + 1 + L'.countP p by omega] at this
        exact this
      · have := H d2 zs2
        rw [List.countP_cons, if_neg c, Nat.add_zero] at this
        exact this
  termination_by L => L.length
theorem y_w24 {post : Int32 → SY → Prop} {J : Int32 → Int32 → Int32 → (Nat → Int32) → (Nat → Int32) → (Nat → Int32) → (Nat → Int32) → (Nat → Int32) → (Nat → Int32) → Prop} {x x2 : Int32} {m : Nat} (hm : m < 1000)
    (H : J (x2 + pwr x m) (nI n) dp al yh ys yf yo yp) : ∀ (k j : Nat), j + k = m → wY_weight_24 post J x x2 (nI m) (nI n) dp al yh ys yf yo yp (k + 1) (pwr x j) (nI j)
  | 0, j, h => by
    have e : j = m := by omega
    subst e
    exact pk_le j j (fun _ => nm_e H) (fun z => absurd z (by omega))
  | k + 1, j, h => pk_le m j (fun z => absurd z (by omega)) (fun hd => nm_e (nm_r (nI_1 j) (y_w24 hm H k (j + 1) (by omega))))
theorem y_w6 {post : Int32 → SY → Prop} {x : Int32} (h1 : 1 ≤ n) (h5 : n ≤ 5) : ∀ (L : List (List Nat)) (a : Int32) (d : Int32) (zs : Nat → Int32), (∀ s, s ∈ L → OK n s) → (∀ s, s ∈ L → ng n s < 5) → YS n al L d zs →
    (∀ (d' : Int32) (zs' : Nat → Int32), post (ysm n x L a) ((nI n), d', al, yh, zs', yf, yo, yp)) → wY_weight_6 post x (L.length + 1) a (nI n) d al yh zs yf yo yp
  | L, a, d, zs, hO, hg, I, H => by
    refine y_adv h1 h5 hO I (fun z d' zs' => br_t rfl ?_) (fun s L' e d' zs' I' hs => br_f (by decide) ?_)
    · rw [z] at H
      exact H d' zs'
    · subst e
      have g5 := hg s (List.mem_cons_self ..)
      refine y_neg h1 h5 (hO s (List.mem_cons_self ..)) hs (Exists.intro (ng n s + 1) (y_w24 (by omega) ?_ (ng n s) 0 (by omega)))
      exact y_w6 h1 h5 L' _ d' zs' (fun t ht => hO t (List.mem_cons_of_mem _ ht)) (fun t ht => hg t (List.mem_cons_of_mem _ ht)) I' H
  termination_by L => L.length
theorem y_h31 {post : Int32 → SY → Prop} {r c : Nat} {w : Int} (h1 : 1 ≤ n) (h5 : n ≤ 5) (hr : r < n) (hc : c < n) (hw : -1 ≤ w ∧ w ≤ 1) : ∀ (L : List (List Nat)) (a : Nat) (d : Int32) (zs : Nat → Int32), (∀ s, s ∈ L → OK n s) → YS n al L d zs →
    (∀ (d' : Int32) (zs' : Nat → Int32), post (nI (a + L.countP (fun s => decide (en n (s.getD r 0) c = w)))) ((nI n), d', al, yh, zs', yf, yo, yp)) → wY_having_31 post (nI r) (nI c) (iz_n w) (L.length + 1) (nI a) (nI n) d al yh zs yf yo yp
  | L, a, d, zs, hO, I, H => by
    refine y_adv h1 h5 hO I (fun z d' zs' => br_t rfl ?_) (fun s L' e d' zs' I' hs => br_f (by decide) ?_)
    · rw [z] at H
      exact H d' zs'
    · subst e
      have IH := fun (a : Nat) => y_h31 (post := post) h1 h5 hr hc hw L' a d' zs' (fun t ht => hO t (List.mem_cons_of_mem _ ht)) I'
      rw [bq_pl]
      refine ⟨bq_in (by omega) (by omega), ?_⟩
      have er := en_r n (s.getD r 0) c
      have e0 := hs r hr c hc
      rw [← bq_cl (show 5 * r + c < 1000 by omega)] at e0
      refine iz_beq (en n (s.getD r 0) c) w (fun q => nm_r (nI_1 a) (IH (a + 1) (fun d2 zs2 => ?_))) (fun q => IH a (fun d2 zs2 => ?_)) (hx := e0)
      · have := H d2 zs2
        rw [List.countP_cons, if_pos (decide_eq_true q), show ∀ b : Nat, a + (b + 1) = a + 1 + b by intro b; omega] at this
        exact this
      · have := H d2 zs2
        rw [List.countP_cons, if_neg (by rw [decide_eq_true_eq]; exact q), Nat.add_zero] at this
        exact this
  termination_by L => L.length
end
theorem i_vc_count {k : Nat} {u : SX} {v : SY} (I : i_Rel k u v) (hk : k + 4 ≤ 2049) : wpX_count (fun r u' => wpY_count (fun r' v' => r' = r ∧ i_Rel (k + 4) u' v') v) u := by
  refine rel_e (P := fun u v => wpX_count (fun r u' => wpY_count (fun r' v' => r' = r ∧ i_Rel (k + 4) u' v') v) u) ?_ I
  intro n M fk ar ac cb al hd be ab bw wk fl fa co se dp yh ys yf yo yp h1 h5 hK hM
  unfold wpX_count wpY_count
  dsimp only
  refine x_find h1 h5 hK (fun fk' be' ab' bw' hK' => ?_)
  refine y_begin h1 h5 (fun zs IY => Exists.intro _ (y_cnt6 h1 h5 _ 0 0 zs sq_OK IY (fun d' zs' => ⟨?_, rel_i h1 h5 (Or.inr hK') hM⟩)))
  have h0 := hK'.1 0 (Nat.zero_le _) 0 (by omega)
  rw [Nat.zero_add]
  exact h0.symm
theorem i_vc_negatives {k : Nat} {u : SX} {v : SY} (I : i_Rel k u v) (hk : k + 4 ≤ 2049) (v1 : Int32) : wpX_negatives (fun r u' => wpY_negatives (fun r' v' => r' = r ∧ i_Rel (k + 4) u' v') v v1) u v1 := by
  refine rel_e (P := fun u v => wpX_negatives (fun r u' => wpY_negatives (fun r' v' => r' = r ∧ i_Rel (k + 4) u' v') v v1) u v1) ?_ I
  intro n M fk ar ac cb al hd be ab bw wk fl fa co se dp yh ys yf yo yp h1 h5 hK hM
  unfold wpX_negatives wpY_negatives
  dsimp only
  refine x_find h1 h5 hK (fun fk' be' ab' bw' hK' => ?_)
  have none_ : (∀ j : Nat, j < 5 → nI j ≠ v1) → wpY_begin (fun u => match u with
      | (f_size_2, f_depth_3, a_allowed_4, a_hand_5, a_square_6, a_found_7, a_other_8, a_passed_9) => ∃ n6 : Nat, wY_negatives_6 (fun r' v' => r' = 0 ∧ i_Rel (k + 4) ((nI n), (nI (tb_R n)), fk', ar, ac, cb, (tP n), (tM n), al, hd, be', ab', bw', wk, fl, fa, co, se) v') v1 n6 0 f_size_2 f_depth_3 a_allowed_4 a_hand_5 a_square_6 a_found_7 a_other_8 a_passed_9) ((nI n), dp, al, yh, ys, yf, yo, yp) := by
    intro hne
    refine y_begin h1 h5 (fun zs IY => Exists.intro _ (y_ngs6 (p := fun _ => false) h1 h5 _ 0 0 zs sq_OK (fun s hs => ⟨fun z => absurd z (hne _ (ng_5 h1 h5 hs)), fun z => by cases z⟩) IY (fun d' zs' => ⟨?_, rel_i h1 h5 (Or.inr hK') hM⟩)))
    rw [List.countP_eq_zero.mpr (fun s _ => by decide)]
    rfl
  by_cases a : v1 < 0
  · exact br_t a (none_ (fun j hj z => by rw [← z] at a; exact nI_pos (by omega) a))
  · obtain ⟨j, hj, rfl⟩ := nI_of a
    by_cases b : j < 5
    · refine br_f a (br_t (nI_lt (b := 5) b (by decide)) ⟨bq_in (by omega) (by omega), ?_⟩)
      refine y_begin h1 h5 (fun zs IY => Exists.intro _ (y_ngs6 (p := fun s => ng n s == j) h1 h5 _ 0 0 zs sq_OK (fun s hs => ?_) IY (fun d' zs' => ⟨?_, rel_i h1 h5 (Or.inr hK') hM⟩)))
      · have := ng_5 h1 h5 hs
        rw [nI_eq (by omega) (by omega), beq_iff_eq]
      · have h0 := hK'.2.2 0 (Nat.zero_le _) 0 (by omega) j b
        rw [Nat.zero_add, bq_cl (by omega)]
        rw [show 5 * (32 * 0 + 0) + j = j by omega] at h0
        exact h0.symm
    · exact br_f a (br_f (fun z => b ((nI_ltI (b := 5) hj (by decide)).mp z)) (none_ (fun i hi z => by rw [nI_eq (by omega) (by omega)] at z; omega)))
section
variable {n : Nat} {fk ar ac cb : Int32} {al hd be ab bw wk fl fa co se : Nat → Int32}
theorem x_w11 {post : Int32 → SX → Prop} {x : Int32} {f : Nat → Nat} (hf : ∀ j, j < 5 → bw j = nI (f j)) (H : post (wsm x f 5) ((nI n), (nI (tb_R n)), fk, ar, ac, cb, (tP n), (tM n), al, hd, be, ab, bw, wk, fl, fa, co, se)) :
    ∀ (k j : Nat), j + k = 5 → wX_weight_11 post x (nI n) (nI (tb_R n)) fk ar ac cb (tP n) (tM n) al hd be ab bw wk fl fa co se (k + 1) (wsm x f j) (pwr x j) (nI j)
  | 0, j, h => by
    have e : j = 5 := by omega
    subst e
    exact pk_le 5 5 (fun _ => H) (fun z => absurd z (by omega))
  | k + 1, j, h => by
    refine pk_le 5 j (fun z => absurd z (by omega)) (fun hj => ⟨bq_in (by omega) (by omega), ?_⟩)
    rw [bq_cl (by omega), hf j hj]
    exact nm_e (nm_e (nm_r (nI_1 j) (x_w11 hf H k (j + 1) (by omega))))
theorem x_pas5 {post : Int32 → Prop} {r i : Nat} (h5 : n ≤ 5) (hr : r < n) (hi : i < tb_R n) (hK : KN n al be ab bw)
    (H : post (nI (sn (fun o => av n (al_row al n) r o * wy n (al_row al n) (n - 1 - r) o i) 32))) :
    ∀ (k o : Nat), o + k = 32 → wX_passing_5 post (nI r) (nI i) (nI n) (nI (tb_R n)) fk ar ac cb (tP n) (tM n) al hd be ab bw wk fl fa co se (k + 1) (nI (sn (fun o => av n (al_row al n) r o * wy n (al_row al n) (n - 1 - r) o i) o)) (nI o)
  | 0, o, h => by
    have e : o = 32 := by omega
    subst e
    exact pk_le 32 32 (fun _ => H) (fun z => absurd z (by omega))
  | k + 1, o, h => by
    refine pk_le 32 o (fun z => absurd z (by omega)) (fun ho => x_way h5 hr hi ho hK ?_)
    rw [bq_32, bq_cl (by omega), hK.2.1 r (by omega) o ho, pk_mul, nI_add]
    exact ⟨bq_in (by omega) (by omega), nm_e (nm_r (nI_1 o) (x_pas5 h5 hr hi hK H k (o + 1) (by omega)))⟩
theorem x_h34 {post : Int32 → SX → Prop} {r c : Nat} {w : Int} (h5 : n ≤ 5) (hr : r < n) (hc : c < n) (hw : -1 ≤ w ∧ w ≤ 1) (hK : KN n al be ab bw)
    (H : post (nI (sn (fun i => if decide (en n i c = w) = true then sn (fun o => av n (al_row al n) r o * wy n (al_row al n) (n - 1 - r) o i) 32 else 0) (tb_R n))) ((nI n), (nI (tb_R n)), fk, ar, ac, cb, (tP n), (tM n), al, hd, be, ab, bw, wk, fl, fa, co, se)) :
    ∀ (k i : Nat), i + k = tb_R n → wX_having_34 post (nI r) (nI c) (iz_n w) (nI n) (nI (tb_R n)) fk ar ac cb (tP n) (tM n) al hd be ab bw wk fl fa co se (k + 1) (nI (sn (fun i => if decide (en n i c = w) = true then sn (fun o => av n (al_row al n) r o * wy n (al_row al n) (n - 1 - r) o i) 32 else 0) i)) (nI i)
  | 0, i, h => by
    have hR := tb_R16 h5
    have e : i = tb_R n := by omega
    subst e
    exact pk_le (tb_R n) (tb_R n) (fun _ => H) (fun z => absurd z (by omega))
  | k + 1, i, h => by
    have hR := tb_R16 h5
    have er := en_r n i c
    have IH := x_h34 h5 hr hc hw hK H k (i + 1) (by omega)
    refine pk_le (tb_R n) i (fun z => absurd z (by omega)) (fun hi => ⟨bq_in (by omega) (by omega), bq_in (by omega) (by omega), x_en h5 (by omega) (by omega) ?_⟩)
    have es : sn (fun i => if decide (en n i c = w) = true then sn (fun o => av n (al_row al n) r o * wy n (al_row al n) (n - 1 - r) o i) 32 else 0) (i + 1) = sn (fun i => if decide (en n i c = w) = true then sn (fun o => av n (al_row al n) r o * wy n (al_row al n) (n - 1 - r) o i) 32 else 0) i + (if decide (en n i c = w) = true then sn (fun o => av n (al_row al n) r o * wy n (al_row al n) (n - 1 - r) o i) 32 else 0) := rfl
    refine iz_beq (en n i c) w (fun q => ?_) (fun q => ?_)
    · rw [if_pos (decide_eq_true q)] at es
      rw [es, ← nI_add] at IH
      exact Exists.intro 33 (x_pas5 h5 hr hi hK (nm_e (nm_r (nI_1 i) IH)) 32 0 (by omega))
    · rw [if_neg (by rw [decide_eq_true_eq]; exact q), Nat.add_zero] at es
      rw [es] at IH
      exact nm_r (nI_1 i) IH
end
theorem i_vc_weight {k : Nat} {u : SX} {v : SY} (I : i_Rel k u v) (hk : k + 4 ≤ 2049) (v1 : Int32) : wpX_weight (fun r u' => wpY_weight (fun r' v' => r' = r ∧ i_Rel (k + 4) u' v') v v1) u v1 := by
  refine rel_e (P := fun u v => wpX_weight (fun r u' => wpY_weight (fun r' v' => r' = r ∧ i_Rel (k + 4) u' v') v v1) u v1) ?_ I
  intro n M fk ar ac cb al hd be ab bw wk fl fa co se dp yh ys yf yo yp h1 h5 hK hM
  unfold wpX_weight wpY_weight
  dsimp only
  refine x_find h1 h5 hK (fun fk' be' ab' bw' hK' => Exists.intro 6 (x_w11 (f := cw n (al_row al n) n 0) (fun j hj => ?_) ?_ 5 0 (by omega)))
  · have h0 := hK'.2.2 0 (Nat.zero_le _) 0 (by omega) j hj
    rw [show 5 * (32 * 0 + 0) + j = j by omega] at h0
    exact h0
  · refine y_begin h1 h5 (fun zs IY => Exists.intro _ (y_w6 h1 h5 _ 0 0 zs sq_OK (fun s hs => ng_5 h1 h5 hs) IY (fun d' zs' => ⟨?_, rel_i h1 h5 (Or.inr hK') hM⟩)))
    rw [ysm_w n v1 _ 0 (fun s hs => ng_5 h1 h5 hs), Int32.zero_add]
    rfl
theorem i_vc_having {k : Nat} {u : SX} {v : SY} (I : i_Rel k u v) (hk : k + 4 ≤ 2049) (v1 : Int32) (v2 : Int32) (v3 : Int32) : wpX_having (fun r u' => wpY_having (fun r' v' => r' = r ∧ i_Rel (k + 4) u' v') v v1 v2 v3) u v1 v2 v3 := by
  refine rel_e (P := fun u v => wpX_having (fun r u' => wpY_having (fun r' v' => r' = r ∧ i_Rel (k + 4) u' v') v v1 v2 v3) u v1 v2 v3) ?_ I
  intro n M fk ar ac cb al hd be ab bw wk fl fa co se dp yh ys yf yo yp h1 h5 hK hM
  unfold wpX_having wpY_having
  dsimp only
  refine x_isP h5 (fun z => br_f (by decide) ?_) (fun z => br_t rfl (y_isP h5 (fun z2 => absurd z2 z) (fun _ => br_t rfl ⟨rfl, rel_i h1 h5 hK hM⟩)))
  by_cases a : v3 < -1
  · exact br_t a (y_isP h5 (fun _ => br_f (by decide) (br_t a ⟨rfl, rel_i h1 h5 hK hM⟩)) (fun z2 => absurd z z2))
  · by_cases b : v3 ≤ 1
    · obtain ⟨r, c, hr, hc, rfl, rfl⟩ := z
      obtain ⟨w, w1, w2, rfl⟩ := iz_ex a b
      refine br_f a (br_t b (x_find h1 h5 hK (fun fk' be' ab' bw' hK' => Exists.intro _ (x_h34 h5 hr hc ⟨w1, w2⟩ hK' ?_ (tb_R n) 0 (by omega)))))
      refine y_isP h5 (fun _ => br_f (by decide) (br_f a (br_t b ?_))) (fun z2 => absurd ⟨r, c, hr, hc, rfl, rfl⟩ z2)
      refine y_begin h1 h5 (fun zs IY => Exists.intro _ (y_h31 h1 h5 hr hc ⟨w1, w2⟩ _ 0 0 zs sq_OK IY (fun d' zs' => ⟨?_, rel_i h1 h5 (Or.inr hK') hM⟩)))
      rw [Nat.zero_add]
      exact congrArg nI (Tq_top (p := fun i => decide (en n i c = w)) h5 hr)
    · exact br_f a (br_f b (y_isP h5 (fun _ => br_f (by decide) (br_f a (br_f b ⟨rfl, rel_i h1 h5 hK hM⟩))) (fun z2 => absurd z z2)))
end
section
/-! the square at hand: whether it is good, and its number -/
def mk (q : Nat → Bool) : Nat → Nat
  | 0 => 0
  | c + 1 => mk q c ||| (if q c = true then 2 ^ c else 0)
theorem mk_bit (q : Nat → Bool) (j : Nat) : ∀ c : Nat, (mk q c).testBit j = (decide (j < c) && q j)
  | 0 => by
    show (0 : Nat).testBit j = _
    rw [Nat.zero_testBit]
    simp
  | c + 1 => by
    show (mk q c ||| (if q c = true then 2 ^ c else 0)).testBit j = _
    rw [Nat.testBit_or, mk_bit q j c]
    by_cases e : j = c
    · subst e
      by_cases h : q j = true
      · rw [if_pos h, h]; simp
      · rw [if_neg h, Bool.not_eq_true] at *
        rw [h]; simp
    · have x : (if q c = true then 2 ^ c else 0).testBit j = false := by
        by_cases h : q c = true
        · rw [if_pos h, Nat.testBit_two_pow]
          simp; omega
        · rw [if_neg h, Nat.zero_testBit]
      rw [x, Bool.or_false]
      by_cases d : j < c
      · rw [decide_eq_true d, decide_eq_true (by omega : j < c + 1)]
      · rw [decide_eq_false d, decide_eq_false (by omega : ¬ j < c + 1)]
theorem mk_lt (q : Nat → Bool) (c : Nat) : mk q c < 2 ^ c := by
  apply Nat.lt_pow_two_of_testBit
  intro i hi
  rw [mk_bit, decide_eq_false (by omega), Bool.false_and]
theorem mk_32 (q : Nat → Bool) {c : Nat} (hc : c ≤ 5) : mk q c < 32 := Nat.lt_of_lt_of_le (mk_lt q c) (Nat.pow_le_pow_right (n := 2) (by decide) hc)
theorem mk_eq {q : Nat → Bool} {P n : Nat} (hP : P < 2 ^ n) : P = mk q n ↔ ∀ j, j < n → P.testBit j = q j := by
  constructor
  · intro h j hj
    rw [h, mk_bit, decide_eq_true hj, Bool.true_and]
  · intro h
    apply Nat.eq_of_testBit_eq
    intro j
    rw [mk_bit]
    by_cases d : j < n
    · rw [decide_eq_true d, Bool.true_and]; exact h j d
    · rw [decide_eq_false d, Bool.false_and]
      exact Nat.testBit_lt_two_pow (Nat.lt_of_lt_of_le hP (Nat.pow_le_pow_right (n := 2) (by decide) (by omega)))
theorem sh1 : ∀ c, c < 6 → (1 : Int32) <<< (nI c &&& 31) = nI (2 ^ c) := by decide +kernel
theorem p2c : ∀ c, c < 5 → 2 ^ c < 32 := by decide
/-- a row of entries is row i of the table if and only if the columns with 1 and with -1 are its -/
theorem row_mk {n i : Nat} {e : Nat → Int} (h5 : n ≤ 5) (hi : i < 16) (he : ∀ c, c < n → -1 ≤ e c ∧ e c ≤ 1) :
    (tb_P n i = mk (fun c => decide (e c = 1)) n ∧ tb_M n i = mk (fun c => decide (e c = -1)) n) ↔ ∀ c, c < n → e c = en n i c := by
  have o := en_out n (by omega) i hi
  rw [mk_eq o.1, mk_eq o.2]
  have dj : ∀ c, ¬ ((tb_P n i).testBit c = true ∧ (tb_M n i).testBit c = true) := fun c z => by
    have := congrArg (fun x => Nat.testBit x c) (tb_dis n (by omega) i hi)
    rw [Nat.testBit_and, z.1, z.2, Nat.zero_testBit] at this
    cases this
  constructor
  · intro h c hc
    have a := h.1 c hc
    have b := h.2 c hc
    have q := he c hc
    unfold en bi
    rw [a, b]
    by_cases z1 : e c = 1
    · rw [if_pos (decide_eq_true z1), if_neg (by rw [decide_eq_true_eq]; omega), z1]; rfl
    · by_cases z2 : e c = -1
      · rw [if_neg (by rw [decide_eq_true_eq]; omega), if_pos (decide_eq_true z2), z2]; rfl
      · rw [if_neg (by rw [decide_eq_true_eq]; omega), if_neg (by rw [decide_eq_true_eq]; omega)]
        omega
  · intro h
    refine ⟨fun c hc => ?_, fun c hc => ?_⟩
    · rw [h c hc]
      unfold en bi
      have := dj c
      cases p : (tb_P n i).testBit c <;> cases q : (tb_M n i).testBit c
      · rfl
      · rfl
      · rfl
      · exact absurd ⟨p, q⟩ this
    · rw [h c hc]
      unfold en bi
      have := dj c
      cases p : (tb_P n i).testBit c <;> cases q : (tb_M n i).testBit c
      · rfl
      · rfl
      · rfl
      · exact absurd ⟨p, q⟩ this
section
variable {n : Nat} {fk ar ac cb : Int32} {al hd be ab bw wk fl fa co se : Nat → Int32}
theorem x_r77 {post : Int32 → Prop} {e : Nat → Int} (h5 : n ≤ 5) (he : ∀ c, c < n → -1 ≤ e c ∧ e c ≤ 1)
    (H1 : ∀ i, i < tb_R n → (∀ c, c < n → e c = en n i c) → post (nI i)) (H0 : (∀ i, i < tb_R n → ¬ ∀ c, c < n → e c = en n i c) → post (-1)) :
    ∀ (k i : Nat), i + k = tb_R n → (∀ j, j < i → ¬ ∀ c, c < n → e c = en n j c) → wX_rowOfHand_77 post (nI (mk (fun c => decide (e c = 1)) n)) (nI (mk (fun c => decide (e c = -1)) n)) (nI n) (nI (tb_R n)) fk ar ac cb (tP n) (tM n) al hd be ab bw wk fl fa co se (k + 1) (nI i)
  | 0, i, h, hj => by
    have hR := tb_R16 h5
    have q : i = tb_R n := by omega
    subst q
    exact pk_le (tb_R n) (tb_R n) (fun _ => H0 hj) (fun z => absurd z (by omega))
  | k + 1, i, h, hj => by
    have hR := tb_R16 h5
    refine pk_le (tb_R n) i (fun z => absurd z (by omega)) (fun hi => ⟨bq_in (by omega) (by omega), ?_⟩)
    rw [bq_cl (by omega), show tP n i = nI (tb_P n i) from rfl, show tM n i = nI (tb_M n i) from rfl]
    have t := tb_lt n (by omega) i (by omega)
    have m1 := mk_32 (fun c => decide (e c = 1)) h5
    have m2 := mk_32 (fun c => decide (e c = -1)) h5
    have R := row_mk (n := n) (i := i) h5 (by omega) he
    have nx : ¬ (tb_P n i = mk (fun c => decide (e c = 1)) n ∧ tb_M n i = mk (fun c => decide (e c = -1)) n) → wX_rowOfHand_77 post (nI (mk (fun c => decide (e c = 1)) n)) (nI (mk (fun c => decide (e c = -1)) n)) (nI n) (nI (tb_R n)) fk ar ac cb (tP n) (tM n) al hd be ab bw wk fl fa co se (k + 1) (nI (i + 1)) := fun z =>
      x_r77 h5 he H1 H0 k (i + 1) (by omega) (fun j hj' => by
        by_cases c : j = i
        · subst c; exact fun w => z (R.mpr w)
        · exact hj j (by omega))
    refine pk_eq (tb_P n i) (mk (fun c => decide (e c = 1)) n) (fun a => ⟨bq_in (by omega) (by omega), pk_eq (tb_M n i) (mk (fun c => decide (e c = -1)) n) (fun b => H1 i hi (R.mp ⟨a, b⟩)) (fun b => nm_r (nI_1 i) (nx (fun z => b z.2)))⟩) (fun a => nm_r (nI_1 i) (nx (fun z => a z.1)))
theorem x_r7 {post : Int32 → Prop} {e : Nat → Int} {r : Nat} (h5 : n ≤ 5) (hr : r < n) (he : ∀ c, c < n → -1 ≤ e c ∧ e c ≤ 1) (hh : ∀ c, c < n → hd (5 * r + c) = iz_n (e c))
    (H : ∃ q, wX_rowOfHand_77 post (nI (mk (fun c => decide (e c = 1)) n)) (nI (mk (fun c => decide (e c = -1)) n)) (nI n) (nI (tb_R n)) fk ar ac cb (tP n) (tM n) al hd be ab bw wk fl fa co se q 0) :
    ∀ (k c : Nat), c + k = n → wX_rowOfHand_7 post (nI r) (nI n) (nI (tb_R n)) fk ar ac cb (tP n) (tM n) al hd be ab bw wk fl fa co se (k + 1) (nI (mk (fun c => decide (e c = 1)) c)) (nI (mk (fun c => decide (e c = -1)) c)) (nI c)
  | 0, c, h => by
    have q : c = n := by omega
    subst q
    exact pk_le c c (fun _ => H) (fun z => absurd z (by omega))
  | k + 1, c, h => by
    refine pk_le n c (fun z => absurd z (by omega)) (fun hc => x_pl ?_)
    rw [bq_cl (by omega), hh c hc, sh1 c (by omega)]
    have hb := he c hc
    have IH := x_r7 h5 hr he hh H k (c + 1) (by omega)
    have z5 := p2c c (by omega)
    have fin : ∀ z0 : Nat, z0 < 32 → mk (fun c => decide (e c = 1)) (c + 1) = mk (fun c => decide (e c = 1)) c ||| z0 → wX_rowOfHand_40 post (wX_rowOfHand_7 post (nI r) (nI n) (nI (tb_R n)) fk ar ac cb (tP n) (tM n) al hd be ab bw wk fl fa co se (k + 1)) (nI r) (nI (mk (fun c => decide (e c = -1)) c)) (nI c) (nI z0) (nI (mk (fun c => decide (e c = 1)) c)) (nI n) (nI (tb_R n)) fk ar ac cb (tP n) (tM n) al hd be ab bw wk fl fa co se := by
      intro z0 hz0 ez
      refine nm_r (e' := nI (mk (fun c => decide (e c = 1)) (c + 1))) ?_ (x_pl ?_)
      · rw [ez]; exact (tb_or _ (mk_32 _ (by omega)) _ hz0).1
      · rw [bq_cl (by omega), hh c hc, sh1 c (by omega)]
        refine ⟨bq_in (by omega) (by omega), iz_beq (e c) (-1) (fun q => nm_r (e' := nI (mk (fun c => decide (e c = -1)) (c + 1))) ?_ (nm_r (nI_1 c) IH)) (fun q => nm_r (e' := nI (mk (fun c => decide (e c = -1)) (c + 1))) ?_ (nm_r (nI_1 c) IH))⟩
        · rw [(tb_or _ (mk_32 _ (by omega)) _ z5).1]
          show _ = nI (mk (fun c => decide (e c = -1)) c ||| (if decide (e c = -1) = true then 2 ^ c else 0))
          rw [if_pos (decide_eq_true q)]
        · rw [show (0 : Int32) = nI 0 from rfl, (tb_or _ (mk_32 _ (by omega)) 0 (by decide)).1]
          show _ = nI (mk (fun c => decide (e c = -1)) c ||| (if decide (e c = -1) = true then 2 ^ c else 0))
          rw [if_neg (by rw [decide_eq_true_eq]; exact q)]
    refine ⟨bq_in (by omega) (by omega), iz_beq (e c) 1 (fun q => fin (2 ^ c) z5 ?_) (fun q => fin 0 (by decide) ?_)⟩
    · show mk (fun c => decide (e c = 1)) c ||| (if decide (e c = 1) = true then 2 ^ c else 0) = _
      rw [if_pos (decide_eq_true q)]
    · show mk (fun c => decide (e c = 1)) c ||| (if decide (e c = 1) = true then 2 ^ c else 0) = _
      rw [if_neg (by rw [decide_eq_true_eq]; exact q)]
theorem x_roh {post : Int32 → Prop} {e : Nat → Int} {r : Nat} (h5 : n ≤ 5) (hr : r < n) (he : ∀ c, c < n → -1 ≤ e c ∧ e c ≤ 1) (hh : ∀ c, c < n → hd (5 * r + c) = iz_n (e c))
    (H1 : ∀ i, i < tb_R n → (∀ c, c < n → e c = en n i c) → post (nI i)) (H0 : (∀ i, i < tb_R n → ¬ ∀ c, c < n → e c = en n i c) → post (-1)) : wpX_rowOfHand post ((nI n), (nI (tb_R n)), fk, ar, ac, cb, (tP n), (tM n), al, hd, be, ab, bw, wk, fl, fa, co, se) (nI r) :=
  Exists.intro (n + 1) (x_r7 h5 hr he hh ⟨tb_R n + 1, x_r77 h5 he H1 H0 (tb_R n) 0 (by omega) (fun j hj => absurd hj (by omega))⟩ n 0 (by omega))
theorem full_n : ∀ n, n < 6 → ((1 : Int32) <<< (nI n &&& 31)) - 1 = nI (2 ^ n - 1) := by decide +kernel
theorem x_g4 {post : Int32 → Prop} {M : Nat → Nat → Int} (h1 : 1 ≤ n) (h5 : n ≤ 5) (hb : ∀ r, r < n → ∀ c, c < n → -1 ≤ M r c ∧ M r c ≤ 1) (hh : ∀ r, r < n → ∀ c, c < n → hd (5 * r + c) = iz_n (M r c))
    (H1 : Asm n M → post 1) (H0 : ¬ Asm n M → post 0) :
    ∀ (k r o : Nat), r + k = n → o < 2 ^ n → (∀ c, c < n → si (fun k => M k c) r = bi o c) → (∀ r', r' < r → ∃ i, i < tb_R n ∧ ∀ c, c < n → M r' c = en n i c) → (∀ c, c < n → ∀ r', r' ≤ r → 0 ≤ si (fun k => M k c) r' ∧ si (fun k => M k c) r' ≤ 1) → wX_isGood_4 post (nI n) (nI (tb_R n)) fk ar ac cb (tP n) (tM n) al hd be ab bw wk fl fa co se (k + 1) (nI o) (nI r)
  | 0, r, o, h, ho, hs, hrow, hcol => by
    have q : r = n := by omega
    subst q
    have p2 := pow_n h5
    refine pk_le r r (fun _ => ?_) (fun z => absurd z (by omega))
    rw [full_n r (by omega)]
    refine pk_eq o (2 ^ r - 1) (fun c => H1 ?_) (fun c => H0 (fun A => c ?_))
    · refine ⟨fun r' hr' c' hc' => ?_, fun r' hr' => ?_, fun c' hc' r' hr' => hcol c' hc' r' hr', fun c' hc' => ?_⟩
      · obtain ⟨i, hi, ei⟩ := hrow r' hr'
        rw [si_ext (g := en r i) c' (fun j hj => ei j (by omega))]
        exact en_sum0 r (by omega) i hi c' (by omega)
      · obtain ⟨i, hi, ei⟩ := hrow r' hr'
        rw [si_ext (g := en r i) r (fun j hj => ei j (by omega))]
        exact en_sum1 r (by omega) (by omega) i hi
      · rw [hs c' hc']
        exact (bi_full r (by omega) o ho).mp c c' hc'
    · refine (bi_full r (by omega) o ho).mpr (fun c' hc' => ?_)
      rw [← hs c' hc']
      exact A.2.2.2 c' hc'
  | k + 1, r, o, h, ho, hs, hrow, hcol => by
    have hR := tb_R16 h5
    have p2 := pow_n h5
    refine pk_le n r (fun z => absurd z (by omega)) (fun hr => x_roh (e := M r) h5 hr (hb r hr) (hh r hr) (fun i hi ei => br_f (nI_pos (by omega)) (x_fol h5 (by omega) (by omega) (fun q => br_f (by decide) (x_aft h5 (by omega) (by omega) (nm_r (nI_1 r) ?_))) (fun q => br_t rfl (H0 (fun A => ?_))))) (fun no => br_t (by decide) (H0 (fun A => ?_))))
    · obtain ⟨b1, b2⟩ := ok_af n (by omega) i hi o ho q
      have hs' : ∀ c, c < n → si (fun k => M k c) (r + 1) = bi (af n i o) c := fun c hc => by
        show si (fun k => M k c) r + M r c = _
        rw [hs c hc, b2 c hc, ei c hc]
      refine x_g4 h1 h5 hb hh H1 H0 k (r + 1) (af n i o) (by omega) b1 hs' (fun r' hr' => ?_) (fun c hc r' hr' => ?_)
      · by_cases c : r' = r
        · subst c; exact ⟨i, hi, ei⟩
        · exact hrow r' (by omega)
      · by_cases d : r' = r + 1
        · subst d
          rw [hs' c hc]
          have := bi_01 (af n i o) c
          omega
        · exact hcol c hc r' (by omega)
    · have : ok n i o = true := (ok_iff n (by omega) i hi o ho).mpr (fun c hc => by
        rw [← hs c hc, ← ei c hc]
        exact A.2.2.1 c hc (r + 1) (by omega))
      rw [this] at q
      cases q
    · obtain ⟨i, hi, ei⟩ := row_ex h1 h5 (hb r hr) (A.1 r hr) (A.2.1 r hr)
      exact no i hi ei
theorem x_isG {post : Int32 → Prop} {M : Nat → Nat → Int} (h1 : 1 ≤ n) (h5 : n ≤ 5) (hb : ∀ r, r < n → ∀ c, c < n → -1 ≤ M r c ∧ M r c ≤ 1) (hh : ∀ r, r < n → ∀ c, c < n → hd (5 * r + c) = iz_n (M r c))
    (H1 : Asm n M → post 1) (H0 : ¬ Asm n M → post 0) : wpX_isGood post ((nI n), (nI (tb_R n)), fk, ar, ac, cb, (tP n), (tM n), al, hd, be, ab, bw, wk, fl, fa, co, se) :=
  Exists.intro (n + 1) (x_g4 h1 h5 hb hh H1 H0 n 0 0 (by omega) (Nat.two_pow_pos n) (fun c _ => (bi_z c).symm) (fun r' hr' => absurd hr' (by omega)) (fun c hc r' hr' => by
    have e : r' = 0 := by omega
    subst e
    show (0 : Int) ≤ 0 ∧ (0 : Int) ≤ 1
    decide))
end
section
variable {n : Nat} {dp : Int32} {al yh ys yf yo yp : Nat → Int32}
/-- along a row or a column -/
def Alt (n : Nat) (e : Nat → Int) : Prop := (∀ c, c ≤ n → 0 ≤ si e c ∧ si e c ≤ 1) ∧ si e n = 1
theorem y_a8 {post : Int32 → Prop} {e : Nat → Int} {k0 x2 : Int32} (h5 : n ≤ 5) (he : ∀ c, c < n → -1 ≤ e c ∧ e c ≤ 1)
    (hx : ∀ c, c < n → (x2 = 0 → vp_in (5 * nI c + k0) 25 ∧ yh (5 * nI c + k0).toNatClampNeg = iz_n (e c)) ∧ (¬ x2 = 0 → vp_in (5 * k0 + nI c) 25 ∧ yh (5 * k0 + nI c).toNatClampNeg = iz_n (e c)))
    (H1 : Alt n e → post 1) (H0 : ¬ Alt n e → post 0) :
    ∀ (k c : Nat) (b : Int32), c + k = n → (b = 1 ∧ (∀ c', c' ≤ c → 0 ≤ si e c' ∧ si e c' ≤ 1) ∨ b = 0 ∧ ¬ ∀ c', c' ≤ c → 0 ≤ si e c' ∧ si e c' ≤ 1) → wY_alternates_8 post k0 x2 (nI n) dp al yh ys yf yo yp (k + 1) (iz_n (si e c)) b (nI c)
  | 0, c, b, h, hb => by
    have q : c = n := by omega
    subst q
    have bd := si_bd (f := e) c (fun i hi => by have := he i hi; omega)
    refine pk_le c c (fun _ => ?_) (fun z => absurd z (by omega))
    rcases hb with ⟨rfl, g⟩ | ⟨rfl, g⟩
    · refine br_f (by decide) (iz_beq (si e c) 1 (fun w => H1 ⟨g, w⟩) (fun w => H0 (fun A => w A.2)))
    · exact br_t rfl (H0 (fun A => g A.1))
  | k + 1, c, b, h, hb => by
    have hc : c < n := by omega
    have IH := fun b => y_a8 h5 he hx H1 H0 k (c + 1) b (by omega)
    have bd := si_bd (f := e) (c + 1) (fun i hi => by have := he i (by omega); omega)
    have fin : wY_alternates_47 post (wY_alternates_8 post k0 x2 (nI n) dp al yh ys yf yo yp (k + 1)) k0 x2 b (nI c) (iz_n (e c)) (iz_n (si e c)) (nI n) dp al yh ys yf yo yp := by
      refine nm_r (e' := iz_n (si e (c + 1))) (iz_add _ _) ?_
      rcases hb with ⟨rfl, g⟩ | ⟨rfl, g⟩
      · refine br_f (by decide) (iz_blt (si e (c + 1)) 0 (fun w => nm_r (nI_1 c) (IH 0 (Or.inr ⟨rfl, fun A => ?_⟩))) (fun w => iz_blt 1 (si e (c + 1)) (fun w2 => nm_r (nI_1 c) (IH 0 (Or.inr ⟨rfl, fun A => ?_⟩))) (fun w2 => nm_r (nI_1 c) (IH 1 (Or.inl ⟨rfl, fun c' hc' => ?_⟩)))))
        · have := (A (c + 1) (Nat.le_refl _)).1
          omega
        · have := (A (c + 1) (Nat.le_refl _)).2
          omega
        · by_cases d : c' = c + 1
          · subst d; exact ⟨w, w2⟩
          · exact g c' (by omega)
      · exact br_t rfl (nm_r (nI_1 c) (IH 0 (Or.inr ⟨rfl, fun A => g (fun c' hc' => A c' (by omega))⟩)))
    refine pk_le n c (fun z => absurd z (by omega)) (fun _ => br_c (fun w => ?_) (fun w => ?_))
    · have q := (hx c hc).1 w
      rw [q.2]
      exact ⟨q.1, fin⟩
    · have q := (hx c hc).2 w
      rw [q.2]
      exact ⟨q.1, fin⟩
theorem y_alt {post : Int32 → Prop} {e : Nat → Int} {k0 x2 : Int32} (h5 : n ≤ 5) (he : ∀ c, c < n → -1 ≤ e c ∧ e c ≤ 1)
    (hx : ∀ c, c < n → (x2 = 0 → vp_in (5 * nI c + k0) 25 ∧ yh (5 * nI c + k0).toNatClampNeg = iz_n (e c)) ∧ (¬ x2 = 0 → vp_in (5 * k0 + nI c) 25 ∧ yh (5 * k0 + nI c).toNatClampNeg = iz_n (e c)))
    (H1 : Alt n e → post 1) (H0 : ¬ Alt n e → post 0) : wpY_alternates post ((nI n), dp, al, yh, ys, yf, yo, yp) k0 x2 :=
  Exists.intro (n + 1) (y_a8 h5 he hx H1 H0 n 0 1 (by omega) (Or.inl ⟨rfl, fun c' hc' => by
    have e : c' = 0 := by omega
    subst e
    show (0 : Int) ≤ 0 ∧ (0 : Int) ≤ 1
    decide⟩))
theorem asm_alt {M : Nat → Nat → Int} : Asm n M ↔ ∀ k, k < n → Alt n (M k) ∧ Alt n (fun r => M r k) :=
  ⟨fun A k hk => ⟨⟨A.1 k hk, A.2.1 k hk⟩, ⟨A.2.2.1 k hk, A.2.2.2 k hk⟩⟩, fun h => ⟨fun r hr => (h r hr).1.1, fun r hr => (h r hr).1.2, fun c hc => (h c hc).2.1, fun c hc => (h c hc).2.2⟩⟩
theorem y_g4 {post : Int32 → Prop} {M : Nat → Nat → Int} (h5 : n ≤ 5) (hb : ∀ r, r < n → ∀ c, c < n → -1 ≤ M r c ∧ M r c ≤ 1) (hh : ∀ r, r < n → ∀ c, c < n → yh (5 * r + c) = iz_n (M r c))
    (H1 : Asm n M → post 1) (H0 : ¬ Asm n M → post 0) :
    ∀ (k r : Nat) (b : Int32), r + k = n → (b = 1 ∧ (∀ q, q < r → Alt n (M q) ∧ Alt n (fun r => M r q)) ∨ b = 0 ∧ ¬ Asm n M) → wY_isGood_4 post (nI n) dp al yh ys yf yo yp (k + 1) b (nI r)
  | 0, r, b, h, hB => by
    have q : r = n := by omega
    subst q
    refine pk_le r r (fun _ => ?_) (fun z => absurd z (by omega))
    rcases hB with ⟨rfl, g⟩ | ⟨rfl, g⟩
    · exact br_f (by decide) (H1 (asm_alt.mpr g))
    · exact br_t rfl (H0 g)
  | k + 1, r, b, h, hB => by
    have IH := fun b => y_g4 h5 hb hh H1 H0 k (r + 1) b (by omega)
    refine pk_le n r (fun z => absurd z (by omega)) (fun hr => ?_)
    rcases hB with ⟨rfl, g⟩ | ⟨rfl, g⟩
    · refine br_f (by decide) (y_alt (e := M r) h5 (hb r hr) (fun c hc => ⟨fun w => absurd w (by decide), fun _ => ?_⟩) (fun A1 => br_f (by decide) (y_alt (e := fun q => M q r) h5 (fun c hc => hb c hc r hr) (fun c hc => ⟨fun _ => ?_, fun w => absurd rfl w⟩) (fun A2 => br_f (by decide) (nm_r (nI_1 r) (IH 1 (Or.inl ⟨rfl, fun q hq => ?_⟩)))) (fun A2 => br_t rfl (nm_r (nI_1 r) (IH 0 (Or.inr ⟨rfl, fun A => A2 (asm_alt.mp A r hr).2⟩)))))) (fun A1 => br_t rfl (nm_r (nI_1 r) (IH 0 (Or.inr ⟨rfl, fun A => A1 (asm_alt.mp A r hr).1⟩)))))
      · rw [bq_pl, bq_cl (by omega)]
        exact ⟨bq_in (by omega) (by omega), hh r hr c hc⟩
      · rw [bq_pl, bq_cl (by omega)]
        exact ⟨bq_in (by omega) (by omega), hh c hc r hr⟩
      · by_cases d : q = r
        · subst d; exact ⟨A1, A2⟩
        · exact g q (by omega)
    · exact br_t rfl (nm_r (nI_1 r) (IH 0 (Or.inr ⟨rfl, g⟩)))
theorem y_isG {post : Int32 → Prop} {M : Nat → Nat → Int} (h5 : n ≤ 5) (hb : ∀ r, r < n → ∀ c, c < n → -1 ≤ M r c ∧ M r c ≤ 1) (hh : ∀ r, r < n → ∀ c, c < n → yh (5 * r + c) = iz_n (M r c))
    (H1 : Asm n M → post 1) (H0 : ¬ Asm n M → post 0) : wpY_isGood post ((nI n), dp, al, yh, ys, yf, yo, yp) :=
  Exists.intro (n + 1) (y_g4 h5 hb hh H1 H0 n 0 1 (by omega) (Or.inl ⟨rfl, fun q hq => absurd hq (by omega)⟩))
end
theorem i_vc_isGood {k : Nat} {u : SX} {v : SY} (I : i_Rel k u v) (hk : k + 4 ≤ 2049) : wpX_isGood (fun r => wpY_isGood (fun r' => r' = r ∧ i_Rel (k + 4) u v) v) u := by
  refine rel_e (P := fun u v => wpX_isGood (fun r => wpY_isGood (fun r' => r' = r ∧ i_Rel (k + 4) u v) v) u) ?_ I
  intro n M fk ar ac cb al hd be ab bw wk fl fa co se dp yh ys yf yo yp h1 h5 hK hM
  have hb : ∀ r, r < n → ∀ c, c < n → -1 ≤ M r c ∧ M r c ≤ 1 := fun r hr c hc => (hM r hr c hc).1
  refine x_isG h1 h5 hb (fun r hr c hc => (hM r hr c hc).2.1) (fun A => ?_) (fun A => ?_)
  · exact y_isG h5 hb (fun r hr c hc => (hM r hr c hc).2.2) (fun _ => ⟨rfl, rel_i h1 h5 hK hM⟩) (fun z => absurd A z)
  · exact y_isG h5 hb (fun r hr c hc => (hM r hr c hc).2.2) (fun z => absurd z A) (fun _ => ⟨rfl, rel_i h1 h5 hK hM⟩)
end
section
/-! numbers of squares on both sides -/
/-- a square is a given one -/
def mm (n : Nat) (M : Nat → Nat → Int) (s : List Nat) : Prop := ∀ r, r < n → ∀ c, c < n → mt n s r c = M r c
theorem rows_ex {n : Nat} {M : Nat → Nat → Int} (h1 : 1 ≤ n) (h5 : n ≤ 5) (hb : ∀ r, r < n → ∀ c, c < n → -1 ≤ M r c ∧ M r c ≤ 1) (A : Asm n M) :
    ∀ k, k ≤ n → ∃ s : List Nat, s.length = k ∧ ∀ r, r < k → s.getD r 0 < tb_R n ∧ ∀ c, c < n → M r c = en n (s.getD r 0) c
  | 0, _ => ⟨[], rfl, fun r hr => absurd hr (by omega)⟩
  | k + 1, hk => by
    obtain ⟨s, hl, hs⟩ := rows_ex h1 h5 hb A k (by omega)
    obtain ⟨i, hi, ei⟩ := row_ex h1 h5 (hb k (by omega)) (A.1 k (by omega)) (A.2.1 k (by omega))
    refine ⟨s ++ [i], by rw [List.length_append, List.length_singleton, hl], fun r hr => ?_⟩
    by_cases c : r = k
    · have e : (s ++ [i]).getD r 0 = i := by
        rw [List.getD_eq_getElem?_getD, List.getElem?_append_right (by omega), show r - s.length = 0 by omega]
        rfl
      rw [e, c]
      exact ⟨hi, ei⟩
    · have e : (s ++ [i]).getD r 0 = s.getD r 0 := by
        rw [List.getD_eq_getElem?_getD, List.getElem?_append_left (by omega), ← List.getD_eq_getElem?_getD]
      rw [e]
      exact hs r (by omega)
theorem drop_c {s : List Nat} {r : Nat} (h : r < s.length) : s.drop r = s.getD r 0 :: s.drop (r + 1) := by
  rw [List.drop_eq_getElem_cons h, List.getD_eq_getElem?_getD, List.getElem?_eq_getElem h]
  rfl
theorem asm_V {n : Nat} {M : Nat → Nat → Int} {s : List Nat} (h5 : n ≤ 5) (A : Asm n M) (hl : s.length = n) (hs : ∀ r, r < n → s.getD r 0 < tb_R n ∧ ∀ c, c < n → M r c = en n (s.getD r 0) c) :
    ∀ (m r o : Nat), r + m = n → o < 2 ^ n → (∀ c, c < n → si (fun k => M k c) r = bi o c) → Vp n (fun _ _ => true) m o (s.drop r)
  | 0, r, o, h, ho, hc => by
    have e : r = n := by omega
    subst e
    refine ⟨List.drop_eq_nil_of_le (by omega), (bi_full r (by omega) o ho).mpr (fun c hcn => ?_)⟩
    rw [← hc c hcn]
    exact A.2.2.2 c hcn
  | m + 1, r, o, h, ho, hc => by
    have hr : r < n := by omega
    rw [drop_c (by omega)]
    obtain ⟨hi, ei⟩ := hs r hr
    have k1 : ok n (s.getD r 0) o = true := (ok_iff n (by omega) _ hi o ho).mpr (fun c hcn => by
      rw [← hc c hcn, ← ei c hcn]
      exact A.2.2.1 c hcn (r + 1) (by omega))
    obtain ⟨b1, b2⟩ := ok_af n (by omega) _ hi o ho k1
    refine ⟨hi, k1, rfl, asm_V h5 A hl hs m (r + 1) _ (by omega) b1 (fun c hcn => ?_)⟩
    show si (fun k => M k c) r + M r c = _
    rw [hc c hcn, b2 c hcn, ei c hcn]
theorem mm_inj {n : Nat} {M : Nat → Nat → Int} {s t : List Nat} (h5 : n ≤ 5) (hs : OK n s) (ht : OK n t) (a : mm n M s) (b : mm n M t) : s = t := by
  apply List.ext_getElem?
  intro r
  by_cases hr : r < n
  · have e : s.getD r 0 = t.getD r 0 := by
      have hR := tb_R16 h5
      have q := fun c (hc : c < n) => (a r hr c hc).trans (b r hr c hc).symm
      have R := row_mk (n := n) (i := s.getD r 0) (e := fun c => en n (s.getD r 0) c) h5 (by have := hs.2 r hr; omega) (fun c _ => en_r _ _ _)
      have R2 := row_mk (n := n) (i := t.getD r 0) (e := fun c => en n (s.getD r 0) c) h5 (by have := ht.2 r hr; omega) (fun c _ => en_r _ _ _)
      have x1 := R.mpr (fun c _ => rfl)
      have x2 := R2.mpr (fun c hc => q c hc)
      exact en_inj n (by omega) _ (hs.2 r hr) _ (ht.2 r hr) (x1.1.trans x2.1.symm) (x1.2.trans x2.2.symm)
    rw [List.getD_eq_getElem?_getD, List.getD_eq_getElem?_getD, List.getElem?_eq_getElem (by rw [hs.1]; exact hr), List.getElem?_eq_getElem (by rw [ht.1]; exact hr)] at e
    rw [List.getElem?_eq_getElem (by rw [hs.1]; exact hr), List.getElem?_eq_getElem (by rw [ht.1]; exact hr)]
    exact congrArg some e
  · rw [List.getElem?_eq_none (by rw [hs.1]; omega), List.getElem?_eq_none (by rw [ht.1]; omega)]
theorem asm_eq {n : Nat} {M N : Nat → Nat → Int} (h : ∀ r, r < n → ∀ c, c < n → M r c = N r c) (A : Asm n M) : Asm n N := by
  have e1 : ∀ r, r < n → ∀ c, c ≤ n → si (M r) c = si (N r) c := fun r hr c hc => si_ext c (fun i hi => h r hr i (by omega))
  have e2 : ∀ c, c < n → ∀ r, r ≤ n → si (fun k => M k c) r = si (fun k => N k c) r := fun c hc r hr => si_ext r (fun i hi => h i (by omega) c hc)
  refine ⟨fun r hr c hc => ?_, fun r hr => ?_, fun c hc r hr => ?_, fun c hc => ?_⟩
  · rw [← e1 r hr c hc]; exact A.1 r hr c hc
  · rw [← e1 r hr n (Nat.le_refl _)]; exact A.2.1 r hr
  · rw [← e2 c hc r hr]; exact A.2.2.1 c hc r hr
  · rw [← e2 c hc n (Nat.le_refl _)]; exact A.2.2.2 c hc
section
variable {n : Nat} {fk ar ac cb : Int32} {al hd be ab bw wk fl fa co se : Nat → Int32}
theorem x_k57 {post : Int32 → SX → Prop} {J : Int32 → Int32 → Int32 → Prop} {r o w a : Nat} (h5 : n ≤ 5) (hr : r < n) (ho : o < 32) (hw : w < tb_R n) (hK : KN n al be ab bw)
    (H : J (nI (a + sn (wy n (al_row al n) (n - 1 - r) o) w)) (nI (af n w o)) (nI (r + 1))) :
    ∀ (k i : Nat), i + k = w → wX_rank_57 post J (nI o) (nI r) (nI w) (nI n) (nI (tb_R n)) fk ar ac cb (tP n) (tM n) al hd be ab bw wk fl fa co se (k + 1) (nI (a + sn (wy n (al_row al n) (n - 1 - r) o) i)) (nI i)
  | 0, i, h => by
    have hR := tb_R16 h5
    have e : i = w := by omega
    subst e
    exact pk_le i i (fun _ => x_aft h5 (by omega) ho (nm_r (nI_1 r) H)) (fun z => absurd z (by omega))
  | k + 1, i, h => by
    have hR := tb_R16 h5
    refine pk_le w i (fun z => absurd z (by omega)) (fun hi => x_way h5 hr (by omega) ho hK (nm_r (e' := nI (a + sn (wy n (al_row al n) (n - 1 - r) o) (i + 1))) ?_ (nm_r (nI_1 i) (x_k57 h5 hr ho hw hK H k (i + 1) (by omega)))))
    rw [nI_add, Nat.add_assoc]
    rfl
theorem x_k23 {post : Int32 → SX → Prop} {M : Nat → Nat → Int} {s : List Nat} (h1 : 1 ≤ n) (h5 : n ≤ 5) (hb : ∀ r, r < n → ∀ c, c < n → -1 ≤ M r c ∧ M r c ≤ 1) (hh : ∀ r, r < n → ∀ c, c < n → hd (5 * r + c) = iz_n (M r c))
    (hl : s.length = n) (hs : ∀ r, r < n → s.getD r 0 < tb_R n ∧ ∀ c, c < n → M r c = en n (s.getD r 0) c) (hK : KN n al be ab bw) :
    ∀ (m r o a : Nat), r + m = n → o < 32 → Vp n (fun _ _ => true) m o (s.drop r) →
    (Vp n (al_row al n) m o (s.drop r) → post (nI (a + ixq n (al_row al n) m o (s.drop r))) ((nI n), (nI (tb_R n)), fk, ar, ac, cb, (tP n), (tM n), al, hd, be, ab, bw, wk, fl, fa, co, se)) → (¬ Vp n (al_row al n) m o (s.drop r) → post (-2) ((nI n), (nI (tb_R n)), fk, ar, ac, cb, (tP n), (tM n), al, hd, be, ab, bw, wk, fl, fa, co, se)) →
    wX_rank_23 post (nI n) (nI (tb_R n)) fk ar ac cb (tP n) (tM n) al hd be ab bw wk fl fa co se (m + 1) (nI a) (nI o) (nI r)
  | 0, r, o, a, h, ho, hv, H1, H0 => by
    have e : r = n := by omega
    subst e
    exact pk_le r r (fun _ => H1 hv) (fun z => absurd z (by omega))
  | m + 1, r, o, a, h, ho, hv, H1, H0 => by
    have hR := tb_R16 h5
    have em : n - 1 - m = r := by omega
    have em' : n - 1 - r = m := by omega
    refine pk_le n r (fun z => absurd z (by omega)) (fun hr => ?_)
    rw [drop_c (by omega)] at hv H1 H0
    have hsr := hs r hr
    refine x_roh (e := M r) h5 hr (hb r hr) (hh r hr) (fun i hi ei => ?_) (fun no => absurd hsr.2 (no _ hsr.1))
    have e : i = s.getD r 0 := by
      have R := row_mk (n := n) (i := i) (e := M r) h5 (by omega) (hb r hr)
      have R2 := row_mk (n := n) (i := s.getD r 0) (e := M r) h5 (by omega) (hb r hr)
      have x1 := R.mpr ei
      have x2 := R2.mpr hsr.2
      exact en_inj n (by omega) _ hi _ hsr.1 (x1.1.trans x2.1.symm) (x1.2.trans x2.2.symm)
    subst e
    refine x_isA h5 (by omega) (by omega) (fun hA => br_f (by decide) (Exists.intro (s.getD r 0 + 1) ?_)) (fun hA => br_t rfl (H0 (fun V => ?_)))
    · refine x_k57 (a := a) h5 hr ho hsr.1 hK ?_ (s.getD r 0) 0 (by omega)
      refine x_k23 h1 h5 hb hh hl hs hK m (r + 1) _ _ (by omega) (af_lt h5 (by omega) ho) hv.2.2.2 (fun V => ?_) (fun V => H0 (fun V' => V V'.2.2.2))
      have q := H1 ⟨hv.1, hv.2.1, by rw [em]; exact hA, V⟩
      have e2 : a + ixq n (al_row al n) (m + 1) o (s.getD r 0 :: s.drop (r + 1)) = a + sn (wy n (al_row al n) (n - 1 - r) o) (s.getD r 0) + ixq n (al_row al n) m (af n (s.getD r 0) o) (s.drop (r + 1)) := by
        rw [em']
        show a + (sn (wy n (al_row al n) m o) (s.getD r 0) + ixq n (al_row al n) m (af n (s.getD r 0) o) (s.drop (r + 1))) = _
        omega
      rw [e2] at q
      exact q
    · have := V.2.2.1
      rw [em, hA] at this
      cases this
/-- the component's number: that of the square in the list, if it is there -/
theorem x_rank {post : Int32 → SX → Prop} {M : Nat → Nat → Int} (h1 : 1 ≤ n) (h5 : n ≤ 5) (hb : ∀ r, r < n → ∀ c, c < n → -1 ≤ M r c ∧ M r c ≤ 1) (hh : ∀ r, r < n → ∀ c, c < n → hd (5 * r + c) = iz_n (M r c)) (hK : fk = 0 ∨ KN n al be ab bw)
    (H1 : ∀ (s : List Nat) (j : Nat), (sq n (al_row al n) n 0)[j]? = some s → mm n M s → ∀ (fk' : Int32) (be' ab' bw' : Nat → Int32), (fk' = 0 ∨ KN n al be' ab' bw') → post (nI j) ((nI n), (nI (tb_R n)), fk', ar, ac, cb, (tP n), (tM n), al, hd, be', ab', bw', wk, fl, fa, co, se))
    (H0 : (∀ s, s ∈ sq n (al_row al n) n 0 → ¬ mm n M s) → ∀ (fk' : Int32) (be' ab' bw' : Nat → Int32), (fk' = 0 ∨ KN n al be' ab' bw') → post (-2) ((nI n), (nI (tb_R n)), fk', ar, ac, cb, (tP n), (tM n), al, hd, be', ab', bw', wk, fl, fa, co, se)) : wpX_rank post ((nI n), (nI (tb_R n)), fk, ar, ac, cb, (tP n), (tM n), al, hd, be, ab, bw, wk, fl, fa, co, se) := by
  unfold wpX_rank
  dsimp only
  refine x_isG h1 h5 hb hh (fun A => br_f (by decide) (x_find h1 h5 hK (fun fk' be' ab' bw' hK' => ?_))) (fun A => br_t rfl (H0 (fun s hs hm => A ?_) _ _ _ _ hK))
  · obtain ⟨s, hl, hs⟩ := rows_ex h1 h5 hb A n (Nat.le_refl _)
    have hmm : mm n M s := fun r hr c hc => ((hs r hr).2 c hc).symm
    have V := asm_V h5 A hl hs n 0 0 (by omega) (Nat.two_pow_pos n) (fun c _ => (bi_z c).symm)
    refine Exists.intro (n + 1) (x_k23 h1 h5 hb hh hl hs hK' n 0 0 0 (by omega) (by omega) V (fun V' => ?_) (fun V' => H0 (fun t ht hmt => V' ?_) _ _ _ _ (Or.inr hK')))
    · rw [Nat.zero_add]
      exact H1 s _ (ix_get V') hmm _ _ _ _ (Or.inr hK')
    · have e : t = s := mm_inj h5 (sq_OK t ht) ⟨hl, fun r hr => (hs r hr).1⟩ hmt hmm
      subst e
      exact mem_V.mp ht
  · exact asm_eq hm (sq_asm h1 h5 hs)
end
section
variable {n : Nat} {dp : Int32} {al yh ys yf yo yp : Nat → Int32}
theorem y_q4 {post : Int32 → Prop} {M : Nat → Nat → Int} {s : List Nat} {x1 : Int32} (h1 : 1 ≤ n) (h5 : n ≤ 5) (hs : Sh n s ys)
    (hb : ∀ r, r < n → ∀ c, c < n → -1 ≤ M r c ∧ M r c ≤ 1)
    (hx : ∀ r, r < n → ∀ c, c < n → (x1 = 0 → yo (5 * r + c) = iz_n (M r c)) ∧ (¬ x1 = 0 → yh (5 * r + c) = iz_n (M r c)))
    (H1 : mm n M s → post 1) (H0 : ¬ mm n M s → post 0) :
    ∀ (k d : Nat) (b : Int32), d + k = n * n → (b = 1 ∧ (∀ j, j < d → hG n s j = M (j / n) (j % n)) ∨ b = 0 ∧ ¬ mm n M s) → wY_isSquare_4 post x1 (nI n) dp al yh ys yf yo yp (k + 1) b (nI d)
  | 0, d, b, h, hB => by
    have hN := nn_le h5
    have e : d = n * n := by omega
    subst e
    refine pk_le (n * n) (n * n) (fun _ => ?_) (fun z => absurd z (by omega)) (hx := nI_sq n)
    rcases hB with ⟨rfl, g⟩ | ⟨rfl, g⟩
    · refine ⟨narrow_b1, H1 (fun r hr c hc => ?_)⟩
      have hi : r * n + c < n * n := by have := mu_le n hr; omega
      have q := g _ hi
      unfold hG at q
      rw [mu_div r hc, mu_mod r hc] at q
      exact q
    · exact ⟨narrow_b0, H0 g⟩
  | k + 1, d, b, h, hB => by
    have hN := nn_le h5
    have IH := fun b => y_q4 h1 h5 hs hb hx H1 H0 k (d + 1) b (by omega)
    refine pk_le (n * n) d (fun z => absurd z (by omega)) (fun hd => y_pa h1 h5 (by omega) ?_) (hx := nI_sq n)
    have hp := pa_lt h1 h5 hd
    have hr := (sz_sq h5 hd).2
    have hc := Nat.mod_lt d (show 0 < n by omega)
    have er : -1 ≤ hG n s d ∧ hG n s d ≤ 1 := en_r n (s.getD (d / n) 0) (d % n)
    have eb := hb _ hr _ hc
    have ex := hx _ hr _ hc
    rcases hB with ⟨rfl, g⟩ | ⟨rfl, g⟩
    · refine br_f (by decide) ⟨bq_in hp (by omega), ?_⟩
      rw [bq_cl (by omega), sh_pa h1 h5 hs hd]
      have fin : wY_isSquare_56 post (wY_isSquare_4 post x1 (nI n) dp al yh ys yf yo yp (k + 1)) x1 (nI d) (iz_n (M (d / n) (d % n))) (iz_n (hG n s d)) (nI n) dp al yh ys yf yo yp := by
        refine iz_beq (hG n s d) (M (d / n) (d % n)) (fun q => nm_r (nI_1 d) (IH 1 (Or.inl ⟨rfl, fun j hj => ?_⟩))) (fun q => nm_r (nI_1 d) (IH 0 (Or.inr ⟨rfl, fun z => q (z _ hr _ hc)⟩)))
        by_cases e : j = d
        · subst e; exact q
        · exact g j (by omega)
      refine br_c (fun z => ⟨bq_in hp (by omega), ?_⟩) (fun z => ⟨bq_in hp (by omega), ?_⟩)
      · rw [show yo (pa n d) = iz_n (M (d / n) (d % n)) from ex.1 z]
        exact fin
      · rw [show yh (pa n d) = iz_n (M (d / n) (d % n)) from ex.2 z]
        exact fin
    · exact br_t rfl (nm_r (nI_1 d) (IH 0 (Or.inr ⟨rfl, g⟩)))
theorem y_isSq {post : Int32 → Prop} {M : Nat → Nat → Int} {s : List Nat} {x1 : Int32} (h1 : 1 ≤ n) (h5 : n ≤ 5) (hs : Sh n s ys)
    (hb : ∀ r, r < n → ∀ c, c < n → -1 ≤ M r c ∧ M r c ≤ 1)
    (hx : ∀ r, r < n → ∀ c, c < n → (x1 = 0 → yo (5 * r + c) = iz_n (M r c)) ∧ (¬ x1 = 0 → yh (5 * r + c) = iz_n (M r c)))
    (H1 : mm n M s → post 1) (H0 : ¬ mm n M s → post 0) : wpY_isSquare post ((nI n), dp, al, yh, ys, yf, yo, yp) x1 :=
  Exists.intro (n * n + 1) (y_q4 h1 h5 hs hb hx H1 H0 (n * n) 0 1 (by omega) (Or.inl ⟨rfl, fun j hj => absurd hj (by omega)⟩))
theorem y_n6 {post : Int32 → SY → Prop} {M : Nat → Nat → Int} {x1 : Int32} {L0 : List (List Nat)} (h1 : 1 ≤ n) (h5 : n ≤ 5)
    (hb : ∀ r, r < n → ∀ c, c < n → -1 ≤ M r c ∧ M r c ≤ 1)
    (hx : ∀ r, r < n → ∀ c, c < n → (x1 = 0 → yo (5 * r + c) = iz_n (M r c)) ∧ (¬ x1 = 0 → yh (5 * r + c) = iz_n (M r c)))
    (H1 : ∀ (s : List Nat) (j : Nat), L0[j]? = some s → mm n M s → ∀ (d : Int32) (zs : Nat → Int32), post (nI j) ((nI n), d, al, yh, zs, yf, yo, yp))
    (H0 : (∀ s, s ∈ L0 → ¬ mm n M s) → ∀ (d : Int32) (zs : Nat → Int32), post (-2) ((nI n), d, al, yh, zs, yf, yo, yp)) :
    ∀ (L : List (List Nat)) (j : Nat) (d : Int32) (zs : Nat → Int32), L0.drop j = L → (∀ s, s ∈ L → OK n s) → YS n al L d zs → (∀ s, s ∈ L0.take j → ¬ mm n M s) →
    wY_numberOf_6 post x1 (L.length + 1) (nI j) (nI n) d al yh zs yf yo yp
  | L, j, d, zs, hL, hO, I, hn => by
    refine y_adv h1 h5 hO I (fun z d' zs' => br_t rfl (H0 (fun s hs => ?_) d' zs')) (fun s L' e d' zs' I' hs => br_f (by decide) (y_isSq h1 h5 hs hb hx (fun q => br_f (by decide) ?_) (fun q => br_t rfl (nm_r (nI_1 j) ?_))))
    · rw [← List.take_append_drop j L0, hL, z, List.append_nil] at hs
      exact hn s hs
    · have e2 : L0[j]? = some s := by
        rw [e] at hL
        have := congrArg (fun l => l[0]?) hL
        simpa using this
      exact H1 s j e2 q d' zs'
    · have el : L.length = L'.length + 1 := by rw [e]; rfl
      rw [e] at hL
      rw [el]
      refine y_n6 h1 h5 hb hx H1 H0 L' (j + 1) d' zs' ?_ (fun t ht => hO t (by rw [e]; exact List.mem_cons_of_mem _ ht)) I' (fun t ht => ?_)
      · rw [← List.drop_drop, hL]; rfl
      · have e2 : L0[j]? = some s := by
          have := congrArg (fun l => l[0]?) hL
          simpa using this
        rw [List.take_add_one, e2] at ht
        rcases List.mem_append.mp ht with a | a
        · exact hn t a
        · have e3 : t = s := by simpa using a
          rw [e3]; exact q
  termination_by L => L.length
  decreasing_by omega
theorem y_num {post : Int32 → SY → Prop} {M : Nat → Nat → Int} {x1 : Int32} (h1 : 1 ≤ n) (h5 : n ≤ 5)
    (hb : ∀ r, r < n → ∀ c, c < n → -1 ≤ M r c ∧ M r c ≤ 1)
    (hx : ∀ r, r < n → ∀ c, c < n → (x1 = 0 → yo (5 * r + c) = iz_n (M r c)) ∧ (¬ x1 = 0 → yh (5 * r + c) = iz_n (M r c)))
    (H1 : ∀ (s : List Nat) (j : Nat), (sq n (al_row al n) n 0)[j]? = some s → mm n M s → ∀ (d : Int32) (zs : Nat → Int32), post (nI j) ((nI n), d, al, yh, zs, yf, yo, yp))
    (H0 : (∀ s, s ∈ sq n (al_row al n) n 0 → ¬ mm n M s) → ∀ (d : Int32) (zs : Nat → Int32), post (-2) ((nI n), d, al, yh, zs, yf, yo, yp)) : wpY_numberOf post ((nI n), dp, al, yh, ys, yf, yo, yp) x1 := by
  unfold wpY_numberOf
  dsimp only
  exact y_begin h1 h5 (fun zs I => Exists.intro _ (y_n6 h1 h5 hb hx H1 H0 _ 0 0 zs rfl sq_OK I (fun s hs => by cases hs)))
end
theorem num_eq {n : Nat} {A : Nat → Nat → Bool} {M : Nat → Nat → Int} (h5 : n ≤ 5) {s t : List Nat} {i j : Nat} (hi : (sq n A n 0)[i]? = some s) (hj : (sq n A n 0)[j]? = some t) (a : mm n M s) (b : mm n M t) : i = j := by
  have e := mm_inj h5 (sq_OK s (List.mem_of_getElem? hi)) (sq_OK t (List.mem_of_getElem? hj)) a b
  subst e
  rw [sq_once hi, sq_once hj]
theorem i_vc_rank {k : Nat} {u : SX} {v : SY} (I : i_Rel k u v) (hk : k + 4 ≤ 2049) : wpX_rank (fun r u' => wpY_rank (fun r' v' => r' = r ∧ i_Rel (k + 4) u' v') v) u := by
  refine rel_e (P := fun u v => wpX_rank (fun r u' => wpY_rank (fun r' v' => r' = r ∧ i_Rel (k + 4) u' v') v) u) ?_ I
  intro n M fk ar ac cb al hd be ab bw wk fl fa co se dp yh ys yf yo yp h1 h5 hK hM
  have hb : ∀ r, r < n → ∀ c, c < n → -1 ≤ M r c ∧ M r c ≤ 1 := fun r hr c hc => (hM r hr c hc).1
  have hx : ∀ r, r < n → ∀ c, c < n → ((1 : Int32) = 0 → yo (5 * r + c) = iz_n (M r c)) ∧ (¬ (1 : Int32) = 0 → yh (5 * r + c) = iz_n (M r c)) := fun r hr c hc => ⟨fun z => absurd z (by decide), fun _ => (hM r hr c hc).2.2⟩
  refine x_rank h1 h5 hb (fun r hr c hc => (hM r hr c hc).2.1) hK (fun s j hj hm fk' be' ab' bw' hK' => ?_) (fun no fk' be' ab' bw' hK' => ?_)
  · unfold wpY_rank
    dsimp only
    refine y_num h1 h5 hb hx (fun t i hi hmt d zs => ⟨?_, rel_i h1 h5 hK' hM⟩) (fun no d zs => absurd hm (no s (List.mem_of_getElem? hj)))
    rw [num_eq h5 hi hj hmt hm]
  · unfold wpY_rank
    dsimp only
    exact y_num h1 h5 hb hx (fun t i hi hmt d zs => absurd hmt (no t (List.mem_of_getElem? hi))) (fun no d zs => ⟨rfl, rel_i h1 h5 hK' hM⟩)
end
section
/-! corner sums, inversions -/
/-- the sum of the first r rows, first c columns -/
def cs (M : Nat → Nat → Int) (r c : Nat) : Int := si (fun q => si (M q) c) r
theorem cs_r0 (M : Nat → Nat → Int) (c : Nat) : cs M 0 c = 0 := rfl
theorem cs_c0 (M : Nat → Nat → Int) (r : Nat) : cs M r 0 = 0 := si_zero r (fun _ _ => rfl)
theorem cs_rs (M : Nat → Nat → Int) (r c : Nat) : cs M (r + 1) c = cs M r c + si (M r) c := rfl
theorem cs_ct (M : Nat → Nat → Int) (r c : Nat) : cs M r c = si (fun q => si (fun k => M k q) r) c := si_comm M r c
theorem cs_csx (M : Nat → Nat → Int) (r c : Nat) : cs M r (c + 1) = cs M r c + si (fun k => M k c) r := by
  rw [cs_ct, cs_ct]; rfl
def cF (M : Nat → Nat → Int) (r c p : Nat) : Int := if p / 5 ≤ r ∧ p % 5 ≤ c then M (p / 5) (p % 5) else 0
theorem cF_sum {M : Nat → Nat → Int} {r c : Nat} (hr : r < 5) (hc : c < 5) : si (cF M r c) 25 = cs M (r + 1) (c + 1) := by
  rw [show (25 : Nat) = 5 * 5 from rfl, si_prod]
  have e : ∀ q, q < 5 → si (fun d => cF M r c (5 * q + d)) 5 = if q < r + 1 then si (M q) (c + 1) else 0 := by
    intro q hq
    by_cases h : q < r + 1
    · rw [if_pos h, ← si_cut (M q) (c := c + 1) 5 (by omega)]
      refine si_ext 5 (fun d hd => ?_)
      unfold cF
      rw [show (5 * q + d) / 5 = q by omega, show (5 * q + d) % 5 = d by omega]
      by_cases h2 : d < c + 1
      · rw [if_pos ⟨by omega, by omega⟩, if_pos h2]
      · rw [if_neg (by omega), if_neg h2]
    · rw [if_neg h]
      refine si_zero 5 (fun d hd => ?_)
      unfold cF
      rw [if_neg (by omega)]
  rw [si_ext 5 e, si_cut (fun q => si (M q) (c + 1)) 5 (by omega)]
  rfl
theorem Asm_cs {n : Nat} {M : Nat → Nat → Int} (A : Asm n M) {r c : Nat} (hr : r ≤ n) (hc : c ≤ n) : 0 ≤ cs M r c ∧ cs M r c ≤ r := by
  induction r with
  | zero =>
    rw [cs_r0]
    omega
  | succ r ih =>
    have h := ih (by omega)
    have q := A.1 r (by omega) c hc
    rw [cs_rs]
    omega
section
variable {n : Nat} {fk ar ac cb : Int32} {al hd be ab bw wk fl fa co se : Nat → Int32}
/-- corners laid before (r, c) -/
def LC (n f : Nat) (M : Nat → Nat → Int) (r c : Nat) (co C : Nat → Int32) : Prop :=
  (∀ r' c', c' < n → (r' < r ∨ (r' = r ∧ c' < c)) → C (f + (5 * r' + c')) = iz_n (cs M (r' + 1) (c' + 1))) ∧ (∀ p, (p < f ∨ f + 25 ≤ p) → C p = co p)
theorem x_lc12 {post : SX → Prop} {J : Int32 → (Nat → Int32) → (Nat → Int32) → (Nat → Int32) → (Nat → Int32) → (Nat → Int32) → (Nat → Int32) → (Nat → Int32) → (Nat → Int32) → (Nat → Int32) → (Nat → Int32) → (Nat → Int32) → (Nat → Int32) → Prop}
    {M : Nat → Nat → Int} {f r : Nat} (h5 : n ≤ 5) (hf : f ≤ 25) (hr : r < n) (hS : SU n M n 0 fl fa)
    (H : ∀ C : Nat → Int32, LC n f M r n co C → J (nI (r + 1)) (tP n) (tM n) al hd be ab bw wk fl fa C se) :
    ∀ (k c : Nat) (C : Nat → Int32), c + k = n → LC n f M r c co C → wX_layCorners_12 post J (nI f) (nI r) (nI n) (nI (tb_R n)) fk ar ac cb (k + 1) (nI c) (tP n) (tM n) al hd be ab bw wk fl fa C se
  | 0, c, C, h, I => by
    have e : c = n := by omega
    subst e
    exact pk_le c c (fun _ => nm_r (nI_1 r) (H C I)) (fun z => absurd z (by omega))
  | k + 1, c, C, h, I => by
    refine pk_le n c (fun z => absurd z (by omega)) (fun hc => x_pl ?_)
    have ef := (hS r c hc (Or.inl hr)).1
    have fin : ∀ v : Int32, v = iz_n (cs M (r + 1) (c + 1)) → LC n f M r (c + 1) co (upd C (f + (5 * r + c)) v) := by
      intro v hv
      subst hv
      refine ⟨fun r' c' hc' hh => ?_, fun p hp => ?_⟩
      · by_cases d : r' = r ∧ c' = c
        · obtain ⟨rfl, rfl⟩ := d
          exact pk_us
        · rw [pk_un (by omega)]
          exact I.1 r' c' hc' (by omega)
      · rw [pk_un (by omega)]; exact I.2 p hp
    rw [nI_add, bq_cl (by omega), bq_cl (by omega), ef]
    refine ⟨bq_in (by omega) (by omega), pk_le r 0 (fun hr0 => ⟨bq_in (by omega) (by omega), ?_⟩) (fun hr0 => ?_)⟩
    · rw [show (0 : Int32) = iz_n 0 from rfl, iz_add]
      refine nm_e (nm_r (nI_1 c) (x_lc12 h5 hf hr hS H k (c + 1) _ (by omega) (fin _ ?_)))
      have e : r = 0 := by omega
      subst e
      rw [cs_rs, cs_r0]
      exact congrArg iz_n (by omega)
    · have e5 : nI (f + (5 * r + c)) - 5 = nI (f + (5 * (r - 1) + c)) := by
        rw [show (5 : Int32) = nI 5 from rfl, pk_sub (by omega)]
        exact congrArg nI (by omega)
      rw [e5, bq_cl (by omega), I.1 (r - 1) c hc (Or.inl (by omega)), iz_add]
      refine ⟨bq_in (by omega) (by omega), bq_in (by omega) (by omega), nm_e (nm_r (nI_1 c) (x_lc12 h5 hf hr hS H k (c + 1) _ (by omega) (fin _ ?_)))⟩
      rw [cs_rs M r, show r - 1 + 1 = r by omega]
      exact congrArg iz_n (by omega)
theorem x_lc2 {post : SX → Prop} {M : Nat → Nat → Int} {f : Nat} (h5 : n ≤ 5) (hf : f ≤ 25) (hS : SU n M n 0 fl fa)
    (H : ∀ C : Nat → Int32, LC n f M n 0 co C → post ((nI n), (nI (tb_R n)), fk, ar, ac, cb, (tP n), (tM n), al, hd, be, ab, bw, wk, fl, fa, C, se)) :
    ∀ (k r : Nat) (C : Nat → Int32), r + k = n → LC n f M r 0 co C → wX_layCorners_2 post (nI f) (nI n) (nI (tb_R n)) fk ar ac cb (k + 1) (nI r) (tP n) (tM n) al hd be ab bw wk fl fa C se
  | 0, r, C, h, I => by
    have e : r = n := by omega
    subst e
    exact pk_le r r (fun _ => H C I) (fun z => absurd z (by omega))
  | k + 1, r, C, h, I => by
    refine pk_le n r (fun z => absurd z (by omega)) (fun hr => Exists.intro (n + 1) (x_lc12 h5 hf hr hS (fun C' I' => x_lc2 h5 hf hS H k (r + 1) C' (by omega) ⟨fun r' c' hc' hh => I'.1 r' c' hc' (by omega), I'.2⟩) n 0 C (by omega) I))
theorem x_lc {post : SX → Prop} {M : Nat → Nat → Int} {f : Nat} (h5 : n ≤ 5) (hf : f ≤ 25) (hS : SU n M n 0 fl fa)
    (H : ∀ C : Nat → Int32, (∀ r, r < n → ∀ c, c < n → C (f + (5 * r + c)) = iz_n (cs M (r + 1) (c + 1))) → (∀ p, (p < f ∨ f + 25 ≤ p) → C p = co p) → post ((nI n), (nI (tb_R n)), fk, ar, ac, cb, (tP n), (tM n), al, hd, be, ab, bw, wk, fl, fa, C, se)) : wpX_layCorners post ((nI n), (nI (tb_R n)), fk, ar, ac, cb, (tP n), (tM n), al, hd, be, ab, bw, wk, fl, fa, co, se) (nI f) :=
  Exists.intro (n + 1) (x_lc2 h5 hf hS (fun C I => H C (fun r hr c hc => I.1 r c hc (Or.inl hr)) I.2) n 0 co (by omega) ⟨fun r' c' hc' hh => absurd hh (by omega), fun _ _ => rfl⟩)
end
section
variable {n : Nat} {dp : Int32} {al yh ys yf yo yp : Nat → Int32}
theorem d5 {p : Nat} (hp : p < 1000) : nI p / 5 = nI (p / 5) := by
  rw [show (5 : Int32) = nI 5 from rfl, pk_div (by omega) (by omega) (by omega)]
theorem m5 {p : Nat} (hp : p < 1000) : nI p - nI p / 5 * 5 = nI (p % 5) := by
  rw [show (5 : Int32) = nI 5 from rfl, pk_rem (by omega) (by omega) (by omega)]
theorem y_co5 {post : Int32 → Prop} {M : Nat → Nat → Int} {r c : Nat} (h5 : n ≤ 5) (hr : r < n) (hc : c < n) (hF : ∀ r, r < n → ∀ c, c < n → yf (5 * r + c) = iz_n (M r c))
    (H : post (iz_n (cs M (r + 1) (c + 1)))) : ∀ (k p : Nat), p + k = 25 → wY_cornerOf_5 post (nI r) (nI c) (nI n) dp al yh ys yf yo yp (k + 1) (iz_n (si (cF M r c) p)) (nI p)
  | 0, p, h => by
    have e : p = 25 := by omega
    subst e
    rw [cF_sum (by omega) (by omega)]
    exact pk_le 25 25 (fun _ => H) (fun z => absurd z (by omega))
  | k + 1, p, h => by
    have IH := y_co5 h5 hr hc hF H k (p + 1) (by omega)
    have es : si (cF M r c) (p + 1) = si (cF M r c) p + cF M r c p := rfl
    refine pk_le 25 p (fun z => absurd z (by omega)) (fun hp => ⟨by decide, ?_⟩)
    rw [m5 (by omega), d5 (by omega)]
    refine pk_lt r (p / 5) (fun q => nm_r (nI_1 p) ?_) (fun q => ⟨by decide, pk_lt c (p % 5) (fun q2 => nm_r (nI_1 p) ?_) (fun q2 => ⟨bq_in hp (by omega), ?_⟩)⟩)
    · rw [show cF M r c p = 0 from if_neg (by omega), Int.add_zero] at es
      rw [es] at IH
      exact IH
    · rw [show cF M r c p = 0 from if_neg (by omega), Int.add_zero] at es
      rw [es] at IH
      exact IH
    · rw [show cF M r c p = M (p / 5) (p % 5) from if_pos ⟨by omega, by omega⟩] at es
      rw [es] at IH
      have e := hF (p / 5) (by omega) (p % 5) (by omega)
      rw [show 5 * (p / 5) + p % 5 = p by omega] at e
      rw [bq_cl (by omega), e, iz_add]
      exact nm_e (nm_r (nI_1 p) IH)
theorem y_co {post : Int32 → Prop} {M : Nat → Nat → Int} {r c : Nat} (h5 : n ≤ 5) (hr : r < n) (hc : c < n) (hF : ∀ r, r < n → ∀ c, c < n → yf (5 * r + c) = iz_n (M r c))
    (H : post (iz_n (cs M (r + 1) (c + 1)))) : wpY_cornerOf post ((nI n), dp, al, yh, ys, yf, yo, yp) (nI r) (nI c) := Exists.intro 26 (y_co5 h5 hr hc hF H 25 0 (by omega))
end
theorem i_vc_corner {k : Nat} {u : SX} {v : SY} (I : i_Rel k u v) (hk : k + 4 ≤ 2049) (v1 : Int32) (v2 : Int32) (v3 : Int32) : wpX_corner (fun r u' => wpY_corner (fun r' v' => r' = r ∧ i_Rel (k + 4) u' v') v v1 v2 v3) u v1 v2 v3 := by
  refine rel_e (P := fun u v => wpX_corner (fun r u' => wpY_corner (fun r' v' => r' = r ∧ i_Rel (k + 4) u' v') v v1 v2 v3) u v1 v2 v3) ?_ I
  intro n M fk ar ac cb al hd be ab bw wk fl fa co se dp yh ys yf yo yp h1 h5 hK hM
  unfold wpX_corner wpY_corner
  dsimp only
  refine x_lay h1 h5 hK (fun hn fk' be' ab' bw' hK' => br_t rfl ?_) (fun s hs fk' be' ab' bw' W FL FA hK' hW hS => br_f (by decide) ?_)
  · exact y_find h1 h5 (fun _ d zs => br_t rfl ⟨rfl, rel_i h1 h5 (Or.inr hK') hM⟩) (fun s hs => no_some hn hs)
  · refine x_isP h5 (fun z => br_f (by decide) ?_) (fun z => br_t rfl ?_)
    · obtain ⟨r, c, hr, hc, rfl, rfl⟩ := z
      refine x_lc (f := 0) h5 (by omega) hS (fun C hC _ => x_pl ⟨bq_in (by omega) (by omega), ?_⟩)
      refine y_find h1 h5 (fun z => no_some z hs) (fun s' hs' d zs F hF => br_f (by decide) (y_isP h5 (fun _ => br_f (by decide) ?_) (fun z2 => absurd ⟨r, c, hr, hc, rfl, rfl⟩ z2)))
      rw [hs] at hs'
      cases hs'
      refine y_co (M := mt n s) h5 hr hc hF ⟨?_, rel_i h1 h5 (Or.inr hK') hM⟩
      rw [bq_cl (by omega)]
      have := hC r hr c hc
      rw [Nat.zero_add] at this
      exact this.symm
    · exact y_find h1 h5 (fun z => no_some z hs) (fun s' hs' d zs F hF => br_f (by decide) (y_isP h5 (fun z2 => absurd z2 z) (fun _ => br_t rfl ⟨rfl, rel_i h1 h5 (Or.inr hK') hM⟩)))
/-! inversions -/
def iX (M : Nat → Nat → Int) (n r c : Nat) : Int := M r (c + 1) * (cs M n (c + 1) - cs M (r + 1) (c + 1))
def iY (M : Nat → Nat → Int) (n p q : Nat) : Int := if (p / 5 < n ∧ p % 5 < n) ∧ (q / 5 < n ∧ q % 5 < n) ∧ p / 5 < q / 5 ∧ q % 5 < p % 5 then M (p / 5) (p % 5) * M (q / 5) (q % 5) else 0
theorem cs_diff (M : Nat → Nat → Int) (a c : Nat) : ∀ d : Nat, cs M (a + d) c - cs M a c = si (fun i => si (M (a + i)) c) d := by
  intro d
  have := si_split (fun q => si (M q) c) a d
  show si (fun q => si (M q) c) (a + d) - si (fun q => si (M q) c) a = _
  omega
theorem iY_in {M : Nat → Nat → Int} {n r c : Nat} (h5 : n ≤ 5) (hr : r < n) (hc : c < n) : si (fun q => iY M n (5 * r + c) q) 25 = M r c * (cs M n c - cs M (r + 1) c) := by
  have e : ∀ q, q < 25 → iY M n (5 * r + c) q = M r c * (if q / 5 < n ∧ r < q / 5 ∧ q % 5 < c then M (q / 5) (q % 5) else 0) := by
    intro q _
    unfold iY
    rw [show (5 * r + c) / 5 = r by omega, show (5 * r + c) % 5 = c by omega]
    by_cases h : q / 5 < n ∧ r < q / 5 ∧ q % 5 < c
    · rw [if_pos h, if_pos ⟨⟨hr, hc⟩, ⟨h.1, by omega⟩, h.2.1, h.2.2⟩]
    · rw [if_neg h, if_neg (fun z => h ⟨z.2.1.1, z.2.2.1, z.2.2.2⟩), Int.mul_zero]
  rw [si_ext 25 e, si_mul]
  congr 1
  rw [show (25 : Nat) = 5 * 5 from rfl, si_prod]
  obtain ⟨d, rfl⟩ : ∃ d, n = r + 1 + d := ⟨n - (r + 1), by omega⟩
  rw [cs_diff]
  have e2 : ∀ q, q < 5 → si (fun x => if (5 * q + x) / 5 < r + 1 + d ∧ r < (5 * q + x) / 5 ∧ (5 * q + x) % 5 < c then M ((5 * q + x) / 5) ((5 * q + x) % 5) else 0) 5 = if r < q ∧ q < r + 1 + d then si (M q) c else 0 := by
    intro q _
    by_cases h : r < q ∧ q < r + 1 + d
    · rw [if_pos h, ← si_cut (M q) (c := c) 5 (by omega)]
      refine si_ext 5 (fun x hx => ?_)
      rw [show (5 * q + x) / 5 = q by omega, show (5 * q + x) % 5 = x by omega]
      by_cases h2 : x < c
      · rw [if_pos ⟨h.2, h.1, h2⟩, if_pos h2]
      · rw [if_neg (fun z => h2 z.2.2), if_neg h2]
    · rw [if_neg h]
      refine si_zero 5 (fun x hx => ?_)
      rw [show (5 * q + x) / 5 = q by omega]
      exact if_neg (fun z => h ⟨z.2.1, z.1⟩)
  rw [si_ext 5 e2, show (5 : Nat) = r + 1 + (4 - r) by omega, si_split, si_zero (f := fun q => if r < q ∧ q < r + 1 + d then si (M q) c else 0) (r + 1) (fun q hq => if_neg (by omega)), Int.zero_add, ← si_cut (fun i => si (M (r + 1 + i)) c) (c := d) (4 - r) (by omega)]
  refine si_ext _ (fun i _ => ?_)
  by_cases h : i < d
  · rw [if_pos h]; exact if_pos ⟨by omega, by omega⟩
  · rw [if_neg h]; exact if_neg (by omega)
theorem iY_out {M : Nat → Nat → Int} {n p : Nat} (h : ¬ (p / 5 < n ∧ p % 5 < n)) : si (fun q => iY M n p q) 25 = 0 := si_zero 25 (fun q _ => if_neg (fun z => h z.1))
theorem inv_eq {M : Nat → Nat → Int} {n : Nat} (h1 : 1 ≤ n) (h5 : n ≤ 5) : si (fun p => si (fun q => iY M n p q) 25) 25 = si (fun r => si (iX M n r) (n - 1)) (n - 1) := by
  have e0 : si (fun p => si (fun q => iY M n p q) 25) 25 = si (fun r => si (fun c => si (fun q => iY M n (5 * r + c) q) 25) 5) 5 := si_prod (fun p => si (fun q => iY M n p q) 25) 5 5
  rw [e0]
  have e1 : ∀ r, r < 5 → si (fun c => si (fun q => iY M n (5 * r + c) q) 25) 5 = if r < n then si (fun c => M r c * (cs M n c - cs M (r + 1) c)) n else 0 := by
    intro r hr
    by_cases h : r < n
    · rw [if_pos h, ← si_cut (fun c => M r c * (cs M n c - cs M (r + 1) c)) (c := n) 5 h5]
      refine si_ext 5 (fun c hc => ?_)
      by_cases h2 : c < n
      · rw [if_pos h2]; exact iY_in h5 h h2
      · rw [if_neg h2]; exact iY_out (by omega)
    · rw [if_neg h]
      exact si_zero 5 (fun c hc => iY_out (by omega))
  rw [si_ext 5 e1, si_cut (fun r => si (fun c => M r c * (cs M n c - cs M (r + 1) c)) n) (c := n) 5 h5]
  obtain ⟨m, rfl⟩ : ∃ m, n = m + 1 := ⟨n - 1, by omega⟩
  rw [Nat.add_sub_cancel]
  show si (fun r => si (fun c => M r c * (cs M (m + 1) c - cs M (r + 1) c)) (m + 1)) m + si (fun c => M m c * (cs M (m + 1) c - cs M (m + 1) c)) (m + 1) = _
  rw [si_zero (f := fun c => M m c * (cs M (m + 1) c - cs M (m + 1) c)) (m + 1) (fun c _ => by rw [Int.sub_self, Int.mul_zero]), Int.add_zero]
  refine si_ext _ (fun r _ => ?_)
  rw [Nat.add_comm m 1, si_split]
  have z : si (fun c => M r c * (cs M (1 + m) c - cs M (r + 1) c)) 1 = 0 := by
    show (0 : Int) + M r 0 * (cs M (1 + m) 0 - cs M (r + 1) 0) = 0
    rw [cs_c0, cs_c0, Int.sub_self, Int.mul_zero]
    rfl
  rw [z, Int.zero_add]
  refine si_ext _ (fun c _ => ?_)
  unfold iX
  rw [Nat.add_comm 1 c]
section
variable {n : Nat} {fk ar ac cb : Int32} {al hd be ab bw wk fl fa co se : Nat → Int32} {dp : Int32} {yh ys yf yo yp : Nat → Int32}
theorem x_i36 {post : Int32 → SX → Prop} {J : Int32 → Int32 → Prop} {M : Nat → Nat → Int} {r : Nat} {a : Int} (h1 : 1 ≤ n) (h5 : n ≤ 5) (hr : r < n - 1)
    (hw : ∀ r, r < n → ∀ c, c < n → wk (5 * r + c) = iz_n (M r c)) (hC : ∀ r, r < n → ∀ c, c < n → co (5 * r + c) = iz_n (cs M (r + 1) (c + 1)))
    (H : J (iz_n (a + si (iX M n r) (n - 1))) (nI (r + 1))) :
    ∀ (k c : Nat), c + k = n - 1 → wX_inversions_36 post J (nI r) (nI n) (nI (tb_R n)) fk ar ac cb (tP n) (tM n) al hd be ab bw wk fl fa co se (k + 1) (iz_n (a + si (iX M n r) c)) (nI (c + 1))
  | 0, c, h => by
    have e : c = n - 1 := by omega
    subst e
    exact pk_le n (n - 1 + 1) (fun _ => nm_r (nI_1 r) H) (fun z => absurd z (by omega))
  | k + 1, c, h => by
    refine pk_le n (c + 1) (fun z => absurd z (by omega)) (fun hc => ?_)
    rw [nI_pred, show nI n - 1 = nI (n - 1) from pk_sub (a := n) (b := 1) h1]
    refine x_pl ⟨bq_in (by omega) (by omega), x_pl ⟨bq_in (by omega) (by omega), ?_⟩⟩
    rw [bq_cl (by omega), bq_cl (by omega), hC (n - 1) (by omega) c (by omega), hC r (by omega) c (by omega), iz_sub, show n - 1 + 1 = n by omega]
    refine nm_e (x_pl ⟨bq_in (by omega) (by omega), ?_⟩)
    rw [bq_cl (by omega), hw r (by omega) (c + 1) (by omega), iz_mul, iz_add]
    refine nm_r (e' := iz_n (a + si (iX M n r) (c + 1))) (congrArg iz_n ?_) (nm_r (nI_1 (c + 1)) (x_i36 h1 h5 hr hw hC H k (c + 1) (by omega)))
    show a + si (iX M n r) c + iX M n r c = a + (si (iX M n r) c + iX M n r c)
    omega
theorem x_i22 {post : Int32 → SX → Prop} {M : Nat → Nat → Int} (h1 : 1 ≤ n) (h5 : n ≤ 5)
    (hw : ∀ r, r < n → ∀ c, c < n → wk (5 * r + c) = iz_n (M r c)) (hC : ∀ r, r < n → ∀ c, c < n → co (5 * r + c) = iz_n (cs M (r + 1) (c + 1)))
    (H : post (iz_n (si (fun r => si (iX M n r) (n - 1)) (n - 1))) ((nI n), (nI (tb_R n)), fk, ar, ac, cb, (tP n), (tM n), al, hd, be, ab, bw, wk, fl, fa, co, se)) :
    ∀ (k r : Nat), r + k = n - 1 → wX_inversions_22 post (nI n) (nI (tb_R n)) fk ar ac cb (tP n) (tM n) al hd be ab bw wk fl fa co se (k + 1) (iz_n (si (fun r => si (iX M n r) (n - 1)) r)) (nI r)
  | 0, r, h => by
    have e : r = n - 1 := by omega
    subst e
    exact pk_le (n - 1) (n - 1) (fun _ => H) (fun z => absurd z (by omega)) (hx := pk_sub (a := n) (b := 1) h1)
  | k + 1, r, h => by
    refine pk_le (n - 1) r (fun z => absurd z (by omega)) (fun hr => Exists.intro (n - 1 + 1) ?_) (hx := pk_sub (a := n) (b := 1) h1)
    have := x_i36 (post := post) (J := wX_inversions_22 post (nI n) (nI (tb_R n)) fk ar ac cb (tP n) (tM n) al hd be ab bw wk fl fa co se (k + 1)) (a := si (fun r => si (iX M n r) (n - 1)) r) (fk := fk) (ar := ar) (ac := ac) (cb := cb) (al := al) (hd := hd) (be := be) (ab := ab) (bw := bw) (fl := fl) (fa := fa) (se := se) h1 h5 hr hw hC (x_i22 h1 h5 hw hC H k (r + 1) (by omega)) (n - 1) 0 (by omega)
    rw [show si (fun r => si (iX M n r) (n - 1)) r + si (iX M n r) 0 = si (fun r => si (iX M n r) (n - 1)) r from Int.add_zero _] at this
    exact this
theorem y_i23 {post : Int32 → SY → Prop} {J : Int32 → Int32 → Prop} {M : Nat → Nat → Int} {p : Nat} {a : Int} (h5 : n ≤ 5) (hp : p < 25) (hF : ∀ r, r < n → ∀ c, c < n → yf (5 * r + c) = iz_n (M r c))
    (H : J (iz_n (a + si (iY M n p) 25)) (nI (p + 1))) : ∀ (k q : Nat), q + k = 25 → wY_inversions_23 post J (nI p) (nI n) dp al yh ys yf yo yp (k + 1) (iz_n (a + si (iY M n p) q)) (nI q)
  | 0, q, h => by
    have e : q = 25 := by omega
    subst e
    exact pk_le 25 25 (fun _ => nm_r (nI_1 p) H) (fun z => absurd z (by omega))
  | k + 1, q, h => by
    have IH := y_i23 (post := post) h5 hp hF H k (q + 1) (by omega)
    have es : a + si (iY M n p) (q + 1) = a + si (iY M n p) q + iY M n p q := by
      show a + (si (iY M n p) q + iY M n p q) = _
      omega
    have isN : ∀ x, x < 25 → (isp n (nI (x / 5)) (nI (x % 5)) ↔ x / 5 < n ∧ x % 5 < n) := fun x hx => by
      have := isp_iz (n := n) h5 (a := ((x / 5 : Nat) : Int)) (b := ((x % 5 : Nat) : Int)) (by omega) (by omega)
      rw [iz_nat, iz_nat] at this
      rw [this]
      omega
    have no : iY M n p q = 0 → wY_inversions_82 post J (wY_inversions_23 post J (nI p) (nI n) dp al yh ys yf yo yp (k + 1)) (iz_n (a + si (iY M n p) q)) (nI p) (nI q) (nI n) dp al yh ys yf yo yp := fun z => by
      rw [es, z, Int.add_zero] at IH
      exact br_t rfl (nm_r (nI_1 q) IH)
    refine pk_le 25 q (fun z => absurd z (by omega)) (fun hq => ⟨by decide, by decide, ?_⟩)
    rw [m5 (p := p) (by omega), m5 (p := q) (by omega), d5 (p := p) (by omega), d5 (p := q) (by omega)]
    refine y_isP h5 (fun z1 => br_f (by decide) ⟨by decide, by decide, y_isP h5 (fun z2 => br_f (by decide) ⟨by decide, by decide, ?_⟩) (fun z2 => br_t rfl (no (if_neg (fun z => z2 ((isN q hq).mpr z.2.1))))) ⟩) (fun z1 => br_t rfl (no (if_neg (fun z => z1 ((isN p hp).mpr z.1)))))
    refine pk_le (q / 5) (p / 5) (fun z3 => no (if_neg (fun z => by omega))) (fun z3 => ⟨by decide, by decide, pk_le (p % 5) (q % 5) (fun z4 => no (if_neg (fun z => by omega))) (fun z4 => ?_)⟩)
    have a1 := (isN p hp).mp z1
    have a2 := (isN q hq).mp z2
    have ev : iY M n p q = M (p / 5) (p % 5) * M (q / 5) (q % 5) := if_pos ⟨a1, a2, z3, z4⟩
    have e1 := hF (p / 5) a1.1 (p % 5) a1.2
    have e2 := hF (q / 5) a2.1 (q % 5) a2.2
    rw [show 5 * (p / 5) + p % 5 = p by omega] at e1
    rw [show 5 * (q / 5) + q % 5 = q by omega] at e2
    refine br_f (by decide) ⟨bq_in hp (by omega), bq_in hq (by omega), ?_⟩
    rw [bq_cl (by omega), bq_cl (by omega), e1, e2, iz_mul, iz_add, ← ev, ← es]
    exact nm_e (nm_r (nI_1 q) IH)
theorem y_i14 {post : Int32 → SY → Prop} {M : Nat → Nat → Int} (h5 : n ≤ 5) (hF : ∀ r, r < n → ∀ c, c < n → yf (5 * r + c) = iz_n (M r c))
    (H : post (iz_n (si (fun p => si (fun q => iY M n p q) 25) 25)) ((nI n), dp, al, yh, ys, yf, yo, yp)) : ∀ (k p : Nat), p + k = 25 → wY_inversions_14 post (nI n) dp al yh ys yf yo yp (k + 1) (iz_n (si (fun p => si (fun q => iY M n p q) 25) p)) (nI p)
  | 0, p, h => by
    have e : p = 25 := by omega
    subst e
    exact pk_le 25 25 (fun _ => H) (fun z => absurd z (by omega))
  | k + 1, p, h => by
    refine pk_le 25 p (fun z => absurd z (by omega)) (fun hp => Exists.intro 26 ?_)
    have := y_i23 (post := post) (J := wY_inversions_14 post (nI n) dp al yh ys yf yo yp (k + 1)) (dp := dp) (al := al) (yh := yh) (ys := ys) (yo := yo) (yp := yp) (a := si (fun p => si (fun q => iY M n p q) 25) p) h5 hp hF (y_i14 h5 hF H k (p + 1) (by omega)) 25 0 (by omega)
    rw [show si (fun p => si (fun q => iY M n p q) 25) p + si (iY M n p) 0 = si (fun p => si (fun q => iY M n p q) 25) p from Int.add_zero _] at this
    exact this
end
theorem i_vc_inversions {k : Nat} {u : SX} {v : SY} (I : i_Rel k u v) (hk : k + 4 ≤ 2049) (v1 : Int32) : wpX_inversions (fun r u' => wpY_inversions (fun r' v' => r' = r ∧ i_Rel (k + 4) u' v') v v1) u v1 := by
  refine rel_e (P := fun u v => wpX_inversions (fun r u' => wpY_inversions (fun r' v' => r' = r ∧ i_Rel (k + 4) u' v') v v1) u v1) ?_ I
  intro n M fk ar ac cb al hd be ab bw wk fl fa co se dp yh ys yf yo yp h1 h5 hK hM
  unfold wpX_inversions wpY_inversions
  dsimp only
  refine x_lay h1 h5 hK (fun hn fk' be' ab' bw' hK' => br_t rfl ?_) (fun s hs fk' be' ab' bw' W FL FA hK' hW hS => br_f (by decide) (x_lc (f := 0) h5 (by omega) hS (fun C hC _ => Exists.intro (n - 1 + 1) (x_i22 (M := mt n s) h1 h5 hW (fun r hr c hc => ?_) ?_ (n - 1) 0 (by omega)))))
  · exact y_find h1 h5 (fun _ d zs => br_t rfl ⟨rfl, rel_i h1 h5 (Or.inr hK') hM⟩) (fun s hs => no_some hn hs)
  · have := hC r hr c hc
    rw [Nat.zero_add] at this
    exact this
  · refine y_find h1 h5 (fun z => no_some z hs) (fun s' hs' d zs F hF => br_f (by decide) (Exists.intro 26 (y_i14 (M := mt n s) h5 ?_ ⟨?_, rel_i h1 h5 (Or.inr hK') hM⟩ 25 0 (by omega))))
    · rw [hs] at hs'
      cases hs'
      exact hF
    · rw [inv_eq h1 h5]
end
section
/-! the greater, or the lesser, corner sums of two squares -/
def sl (w : Bool) (a b : Int) : Int := if a ≤ b then (if w = true then b else a) else (if w = true then a else b)
theorem sl_or (w : Bool) (a b : Int) : sl w a b = a ∧ (w = true → b ≤ a) ∧ (w = false → a ≤ b) ∨ sl w a b = b ∧ (w = true → a ≤ b) ∧ (w = false → b ≤ a) := by
  unfold sl
  cases w
  · by_cases h : a ≤ b
    · rw [if_pos h, if_neg (by decide)]; exact Or.inl ⟨rfl, fun z => (by cases z), fun _ => h⟩
    · rw [if_neg h, if_neg (by decide)]; exact Or.inr ⟨rfl, fun z => (by cases z), fun _ => by omega⟩
  · by_cases h : a ≤ b
    · rw [if_pos h, if_pos rfl]; exact Or.inr ⟨rfl, fun _ => h, fun z => (by cases z)⟩
    · rw [if_neg h, if_pos rfl]; exact Or.inl ⟨rfl, fun _ => by omega, fun z => (by cases z)⟩
theorem sl_step {w : Bool} {a b a' b' : Int} (h1 : a ≤ a' ∧ a' ≤ a + 1) (h2 : b ≤ b' ∧ b' ≤ b + 1) : sl w a b ≤ sl w a' b' ∧ sl w a' b' ≤ sl w a b + 1 := by
  have x := sl_or w a b
  have y := sl_or w a' b'
  cases w
  · rcases x with ⟨e, _, p⟩ | ⟨e, _, p⟩ <;> rcases y with ⟨e', _, p'⟩ | ⟨e', _, p'⟩ <;> rw [e, e'] <;> have p := p rfl <;> have p' := p' rfl <;> omega
  · rcases x with ⟨e, p, _⟩ | ⟨e, p, _⟩ <;> rcases y with ⟨e', p', _⟩ | ⟨e', p', _⟩ <;> rw [e, e'] <;> have p := p rfl <;> have p' := p' rfl <;> omega
def Kc (w : Bool) (M N : Nat → Nat → Int) (r c : Nat) : Int := sl w (cs M r c) (cs N r c)
def Dc (w : Bool) (M N : Nat → Nat → Int) (r c : Nat) : Int := Kc w M N (r + 1) (c + 1) - Kc w M N (r + 1) c - Kc w M N r (c + 1) + Kc w M N r c
theorem sl_00 (w : Bool) : sl w 0 0 = 0 := by cases w <;> rfl
theorem Kc_r0 (w : Bool) (M N : Nat → Nat → Int) (c : Nat) : Kc w M N 0 c = 0 := sl_00 w
theorem Kc_c0 (w : Bool) (M N : Nat → Nat → Int) (r : Nat) : Kc w M N r 0 = 0 := by
  unfold Kc
  rw [cs_c0, cs_c0]; exact sl_00 w
theorem Dc_r {n : Nat} {w : Bool} {M N : Nat → Nat → Int} (A : Asm n M) (B : Asm n N) {r c : Nat} (hr : r < n) (hc : c < n) : -1 ≤ Dc w M N r c ∧ Dc w M N r c ≤ 1 := by
  have st : ∀ d, d ≤ n → Kc w M N r d ≤ Kc w M N (r + 1) d ∧ Kc w M N (r + 1) d ≤ Kc w M N r d + 1 := fun d hd => by
    have a := A.1 r hr d hd
    have b := B.1 r hr d hd
    exact sl_step (by rw [cs_rs]; omega) (by rw [cs_rs]; omega)
  have x := st (c + 1) (by omega)
  have y := st c (by omega)
  unfold Dc
  omega
theorem Kc_b {n : Nat} {w : Bool} {M N : Nat → Nat → Int} (A : Asm n M) (B : Asm n N) {r c : Nat} (hr : r ≤ n) (hc : c ≤ n) : 0 ≤ Kc w M N r c ∧ Kc w M N r c ≤ r := by
  have a := Asm_cs A hr hc
  have b := Asm_cs B hr hc
  rcases sl_or w (cs M r c) (cs N r c) with x | x
  · unfold Kc; rw [x.1]; exact a
  · unfold Kc; rw [x.1]; exact b
/-- the same over Int32 -/
def slI (x a b : Int32) : Int32 := if a ≤ b then (if x = 0 then b else a) else (if x = 0 then a else b)
theorem slI_iz {x : Int32} {w : Bool} (hw : x = 0 ↔ w = true) {a b : Int} (ha : 0 ≤ a ∧ a ≤ 100) (hb : 0 ≤ b ∧ b ≤ 100) : slI x (iz_n a) (iz_n b) = iz_n (sl w a b) := by
  unfold slI sl
  by_cases h : a ≤ b
  · rw [if_pos h, if_pos ((iz_le (by omega) (by omega) (by omega) (by omega)).mpr h)]
    by_cases z : x = 0
    · rw [if_pos z, if_pos (hw.mp z)]
    · rw [if_neg z, if_neg (fun q => z (hw.mpr q))]
  · rw [if_neg h, if_neg (fun q => h ((iz_le (by omega) (by omega) (by omega) (by omega)).mp q))]
    by_cases z : x = 0
    · rw [if_pos z, if_pos (hw.mp z)]
    · rw [if_neg z, if_neg (fun q => z (hw.mpr q))]
section
variable {n : Nat} {fk ar ac cb : Int32} {al hd be ab bw wk fl fa co se : Nat → Int32}
theorem x_m54 {post : Int32 → SX → Prop} {x3 : Int32}
    (H : ∀ C : Nat → Int32, (∀ q, q < 25 → C q = slI x3 (co q) (co (25 + q))) → wpX_rankOfCorners (fun r u => (0 ≤ r → post r u) ∧ (¬ 0 ≤ r → post (-3) u)) ((nI n), (nI (tb_R n)), fk, ar, ac, cb, (tP n), (tM n), al, hd, be, ab, bw, wk, fl, fa, C, se)) :
    ∀ (k p : Nat) (C : Nat → Int32), p + k = 25 → (∀ q, q < p → C q = slI x3 (co q) (co (25 + q))) → (∀ q, p ≤ q → C q = co q) → wX_mix_54 post x3 (nI n) (nI (tb_R n)) fk ar ac cb (k + 1) (nI p) (tP n) (tM n) al hd be ab bw wk fl fa C se
  | 0, p, C, h, h1, h2 => by
    have e : p = 25 := by omega
    subst e
    exact pk_le 25 25 (fun _ => H C h1) (fun z => absurd z (by omega))
  | k + 1, p, C, h, h1, h2 => by
    refine pk_le 25 p (fun z => absurd z (by omega)) (fun hp => ?_)
    have e25 : 25 + nI p = nI (25 + p) := nI_add 25 p
    have IH : ∀ v, v = slI x3 (co p) (co (25 + p)) → wX_mix_54 post x3 (nI n) (nI (tb_R n)) fk ar ac cb (k + 1) (nI (p + 1)) (tP n) (tM n) al hd be ab bw wk fl fa (upd C p v) se := fun v hv =>
      x_m54 H k (p + 1) _ (by omega) (fun q hq => by
        by_cases c : q = p
        · subst c; rw [pk_us]; exact hv
        · rw [pk_un c]; exact h1 q (by omega)) (fun q hq => by rw [pk_un (by omega)]; exact h2 q (by omega))
    have g105 : ∀ z0 z1 : Int32, (z1 = z0 → C p = slI x3 (co p) (co (25 + p))) → (¬ z1 = z0 → C (25 + p) = slI x3 (co p) (co (25 + p))) → wX_mix_105 post (wX_mix_54 post x3 (nI n) (nI (tb_R n)) fk ar ac cb (k + 1)) x3 (nI p) z0 z1 (nI p) (nI n) (nI (tb_R n)) fk ar ac cb (tP n) (tM n) al hd be ab bw wk fl fa C se := by
      intro z0 z1 a b
      refine br_c (fun z => ⟨bq_in (by omega) (by omega), bq_in (by omega) (by omega), ?_⟩) (fun z => ?_)
      · rw [bq_cl (by omega)]
        exact nm_e (nm_r (nI_1 p) (IH _ (a z)))
      · rw [e25, bq_cl (by omega), bq_cl (by omega)]
        exact ⟨bq_in (by omega) (by omega), bq_in (by omega) (by omega), nm_e (nm_r (nI_1 p) (IH _ (b z)))⟩
    have c1 := h2 p (Nat.le_refl _)
    have c2 := h2 (25 + p) (by omega)
    rw [e25, bq_cl (by omega), bq_cl (by omega), c1, c2]
    refine ⟨bq_in (by omega) (by omega), bq_in (by omega) (by omega), br_c (fun z => ?_) (fun z => ?_)⟩
    · refine br_c (fun z2 => g105 _ _ (fun q => absurd q (by decide)) (fun _ => ?_)) (fun z2 => g105 _ _ (fun _ => ?_) (fun q => absurd rfl q))
      · rw [c2]; unfold slI; rw [if_pos z, if_pos z2]
      · rw [c1]; unfold slI; rw [if_pos z, if_neg z2]
    · refine br_c (fun z2 => g105 _ _ (fun _ => ?_) (fun q => absurd rfl q)) (fun z2 => g105 _ _ (fun q => absurd q (by decide)) (fun _ => ?_))
      · rw [c1]; unfold slI; rw [if_neg z, if_pos z2]
      · rw [c2]; unfold slI; rw [if_neg z, if_neg z2]
theorem x_c152 {post : Int32 → SX → Prop} {x1 : Int32} (H : ∀ W : Nat → Int32, (∀ p, p < 25 → W p = wk p) → post x1 ((nI n), (nI (tb_R n)), fk, ar, ac, cb, (tP n), (tM n), al, W, be, ab, bw, wk, fl, fa, co, se)) :
    ∀ (k p : Nat) (W : Nat → Int32), p + k = 25 → (∀ q, q < p → W q = wk q) → wX_rankOfCorners_152 post x1 (nI n) (nI (tb_R n)) fk ar ac cb (k + 1) (nI p) (tP n) (tM n) al W be ab bw wk fl fa co se
  | 0, p, W, h, hW => by
    have e : p = 25 := by omega
    subst e
    exact pk_le 25 25 (fun _ => H W hW) (fun z => absurd z (by omega))
  | k + 1, p, W, h, hW => by
    refine pk_le 25 p (fun z => absurd z (by omega)) (fun hp => ⟨bq_in hp (by omega), bq_in hp (by omega), ?_⟩)
    rw [bq_cl (by omega)]
    refine nm_e (nm_r (nI_1 p) (x_c152 H k (p + 1) _ (by omega) (fun q hq => ?_)))
    by_cases c : q = p
    · subst c; exact pk_us
    · rw [pk_un c]; exact hW q (by omega)
theorem x_c2 {post : Int32 → SX → Prop} (H : ∀ W : Nat → Int32, (∀ p, p < 25 → W p = hd p) → ∃ q, wX_rankOfCorners_28 post (nI n) (nI (tb_R n)) fk ar ac cb q 0 (tP n) (tM n) al hd be ab bw W fl fa co se) :
    ∀ (k p : Nat) (W : Nat → Int32), p + k = 25 → (∀ q, q < p → W q = hd q) → wX_rankOfCorners_2 post (nI n) (nI (tb_R n)) fk ar ac cb (k + 1) (nI p) (tP n) (tM n) al hd be ab bw W fl fa co se
  | 0, p, W, h, hW => by
    have e : p = 25 := by omega
    subst e
    exact pk_le 25 25 (fun _ => H W hW) (fun z => absurd z (by omega))
  | k + 1, p, W, h, hW => by
    refine pk_le 25 p (fun z => absurd z (by omega)) (fun hp => ⟨bq_in hp (by omega), bq_in hp (by omega), ?_⟩)
    rw [bq_cl (by omega)]
    refine nm_e (nm_r (nI_1 p) (x_c2 H k (p + 1) _ (by omega) (fun q hq => ?_)))
    by_cases c : q = p
    · subst c; exact pk_us
    · rw [pk_un c]; exact hW q (by omega)
def HD (n : Nat) (D : Nat → Nat → Int) (r c : Nat) (W : Nat → Int32) : Prop := ∀ r' c', c' < n → (r' < r ∨ (r' = r ∧ c' < c)) → W (5 * r' + c') = iz_n (D r' c')
theorem x_c38 {post : Int32 → SX → Prop} {J : Int32 → (Nat → Int32) → (Nat → Int32) → (Nat → Int32) → (Nat → Int32) → (Nat → Int32) → (Nat → Int32) → (Nat → Int32) → (Nat → Int32) → (Nat → Int32) → (Nat → Int32) → (Nat → Int32) → (Nat → Int32) → Prop}
    {w : Bool} {M N : Nat → Nat → Int} {r : Nat} (h5 : n ≤ 5) (hr : r < n) (hC : ∀ r, r < n → ∀ c, c < n → co (5 * r + c) = iz_n (Kc w M N (r + 1) (c + 1)))
    (H : ∀ W : Nat → Int32, HD n (Dc w M N) r n W → J (nI (r + 1)) (tP n) (tM n) al W be ab bw wk fl fa co se) :
    ∀ (k c : Nat) (W : Nat → Int32), c + k = n → HD n (Dc w M N) r c W → wX_rankOfCorners_38 post J (nI r) (nI n) (nI (tb_R n)) fk ar ac cb (k + 1) (nI c) (tP n) (tM n) al W be ab bw wk fl fa co se
  | 0, c, W, h, I => by
    have e : c = n := by omega
    subst e
    exact pk_le c c (fun _ => nm_r (nI_1 r) (H W I)) (fun z => absurd z (by omega))
  | k + 1, c, W, h, I => by
    have IH : ∀ v, v = iz_n (Dc w M N r c) → wX_rankOfCorners_38 post J (nI r) (nI n) (nI (tb_R n)) fk ar ac cb (k + 1) (nI (c + 1)) (tP n) (tM n) al (upd W (5 * r + c) v) be ab bw wk fl fa co se := fun v hv =>
      x_c38 h5 hr hC H k (c + 1) _ (by omega) (fun r' c' hc' hh => by
        by_cases d : r' = r ∧ c' = c
        · obtain ⟨rfl, rfl⟩ := d
          rw [pk_us]; exact hv
        · rw [pk_un (by omega)]
          exact I r' c' hc' (by omega))
    refine pk_le n c (fun z => absurd z (by omega)) (fun hc => x_pl ?_)
    have g110 : wX_rankOfCorners_110 post J (wX_rankOfCorners_38 post J (nI r) (nI n) (nI (tb_R n)) fk ar ac cb (k + 1)) (nI r) (nI c) (nI (5 * r + c)) (iz_n (Kc w M N (r + 1) c)) (iz_n (Kc w M N r (c + 1))) (iz_n (Kc w M N r c)) (nI n) (nI (tb_R n)) fk ar ac cb (tP n) (tM n) al W be ab bw wk fl fa co se := by
      refine And.intro (bq_in (by omega) (by omega)) (And.intro (bq_in (by omega) (by omega)) ?_)
      rw [bq_cl (by omega), hC r hr c hc, iz_sub, iz_sub, iz_add]
      exact nm_e (nm_r (nI_1 c) (IH _ rfl))
    have g86 : wX_rankOfCorners_86 post J (wX_rankOfCorners_38 post J (nI r) (nI n) (nI (tb_R n)) fk ar ac cb (k + 1)) (nI r) (nI c) (nI (5 * r + c)) (iz_n (Kc w M N (r + 1) c)) (iz_n (Kc w M N r (c + 1))) (nI n) (nI (tb_R n)) fk ar ac cb (tP n) (tM n) al W be ab bw wk fl fa co se := by
      refine pk_le r 0 (fun z => ?_) (fun z => pk_le c 0 (fun z2 => ?_) (fun z2 => ?_))
      · have e : r = 0 := by omega
        rw [e, Kc_r0 w M N c] at g110
        rw [e]
        exact g110
      · have e : c = 0 := by omega
        rw [e, Kc_c0 w M N r] at g110
        rw [e]
        exact g110
      · have e6 : nI (5 * r + c) - 5 - 1 = nI (5 * (r - 1) + (c - 1)) := by
          rw [show (5 : Int32) = nI 5 from rfl, show (1 : Int32) = nI 1 from rfl, pk_sub (by omega), pk_sub (by omega)]
          exact congrArg nI (by omega)
        rw [e6, bq_cl (by omega), hC (r - 1) (by omega) (c - 1) (by omega), show r - 1 + 1 = r by omega, show c - 1 + 1 = c by omega]
        exact ⟨bq_in (by omega) (by omega), g110⟩
    have g68 : wX_rankOfCorners_68 post J (wX_rankOfCorners_38 post J (nI r) (nI n) (nI (tb_R n)) fk ar ac cb (k + 1)) (nI r) (nI c) (nI (5 * r + c)) (iz_n (Kc w M N (r + 1) c)) (nI n) (nI (tb_R n)) fk ar ac cb (tP n) (tM n) al W be ab bw wk fl fa co se := by
      refine pk_le r 0 (fun z => ?_) (fun z => ?_)
      · have e : r = 0 := by omega
        rw [e, Kc_r0 w M N (c + 1)] at g86
        rw [e]
        exact g86
      · have e5 : nI (5 * r + c) - 5 = nI (5 * (r - 1) + c) := by
          rw [show (5 : Int32) = nI 5 from rfl, pk_sub (by omega)]
          exact congrArg nI (by omega)
        rw [e5, bq_cl (by omega), hC (r - 1) (by omega) c hc, show r - 1 + 1 = r by omega]
        exact ⟨bq_in (by omega) (by omega), g86⟩
    refine pk_le c 0 (fun z => ?_) (fun z => ?_)
    · have e : c = 0 := by omega
      rw [e, Kc_c0 w M N (r + 1)] at g68
      rw [e]
      exact g68
    · have e1 : nI (5 * r + c) - 1 = nI (5 * r + (c - 1)) := by
        rw [show (1 : Int32) = nI 1 from rfl, pk_sub (by omega)]
        exact congrArg nI (by omega)
      rw [e1, bq_cl (by omega), hC r hr (c - 1) (by omega), show c - 1 + 1 = c by omega]
      exact ⟨bq_in (by omega) (by omega), g68⟩
theorem x_c28 {post : Int32 → SX → Prop} {w : Bool} {M N : Nat → Nat → Int} (h5 : n ≤ 5) (hC : ∀ r, r < n → ∀ c, c < n → co (5 * r + c) = iz_n (Kc w M N (r + 1) (c + 1)))
    (H : ∀ W : Nat → Int32, HD n (Dc w M N) n 0 W → wpX_rank (fun r_3 u => match u with | (a1, a2, a3, a4, a5, a6, a7, a8, a9, a10, a11, a12, a13, a14, a15, a16, a17, a18) => ∃ n152 : Nat, wX_rankOfCorners_152 post r_3 a1 a2 a3 a4 a5 a6 n152 0 a7 a8 a9 a10 a11 a12 a13 a14 a15 a16 a17 a18) ((nI n), (nI (tb_R n)), fk, ar, ac, cb, (tP n), (tM n), al, W, be, ab, bw, wk, fl, fa, co, se)) :
    ∀ (k r : Nat) (W : Nat → Int32), r + k = n → HD n (Dc w M N) r 0 W → wX_rankOfCorners_28 post (nI n) (nI (tb_R n)) fk ar ac cb (k + 1) (nI r) (tP n) (tM n) al W be ab bw wk fl fa co se
  | 0, r, W, h, I => by
    have e : r = n := by omega
    subst e
    exact pk_le r r (fun _ => H W I) (fun z => absurd z (by omega))
  | k + 1, r, W, h, I => by
    refine pk_le n r (fun z => absurd z (by omega)) (fun hr => Exists.intro (n + 1) (x_c38 h5 hr hC (fun W' I' => x_c28 h5 hC H k (r + 1) W' (by omega) (fun r' c' hc' hh => I' r' c' hc' (by omega))) n 0 W (by omega) I))
theorem x_rc {post : Int32 → SX → Prop} {w : Bool} {M N : Nat → Nat → Int} (h1 : 1 ≤ n) (h5 : n ≤ 5) (A : Asm n M) (B : Asm n N) (hK : fk = 0 ∨ KN n al be ab bw) (hC : ∀ r, r < n → ∀ c, c < n → co (5 * r + c) = iz_n (Kc w M N (r + 1) (c + 1)))
    (H1 : ∀ (s : List Nat) (j : Nat), (sq n (al_row al n) n 0)[j]? = some s → mm n (Dc w M N) s → ∀ (fk' : Int32) (be' ab' bw' hd' wk' : Nat → Int32), (fk' = 0 ∨ KN n al be' ab' bw') → (∀ p, p < 25 → hd' p = hd p) → post (nI j) ((nI n), (nI (tb_R n)), fk', ar, ac, cb, (tP n), (tM n), al, hd', be', ab', bw', wk', fl, fa, co, se))
    (H0 : (∀ s, s ∈ sq n (al_row al n) n 0 → ¬ mm n (Dc w M N) s) → ∀ (fk' : Int32) (be' ab' bw' hd' wk' : Nat → Int32), (fk' = 0 ∨ KN n al be' ab' bw') → (∀ p, p < 25 → hd' p = hd p) → post (-2) ((nI n), (nI (tb_R n)), fk', ar, ac, cb, (tP n), (tM n), al, hd', be', ab', bw', wk', fl, fa, co, se)) : wpX_rankOfCorners post ((nI n), (nI (tb_R n)), fk, ar, ac, cb, (tP n), (tM n), al, hd, be, ab, bw, wk, fl, fa, co, se) := by
  refine Exists.intro 26 (x_c2 (fun W hW => ⟨n + 1, x_c28 h5 hC (fun W2 I => ?_) n 0 hd (by omega) (fun r' c' hc' hh => absurd hh (by omega))⟩) 25 0 wk (by omega) (fun q hq => absurd hq (by omega)))
  refine x_rank (M := Dc w M N) h1 h5 (fun r hr c hc => Dc_r A B hr hc) (fun r hr c hc => I r c hc (Or.inl hr)) hK (fun s j hj hm fk' be' ab' bw' hK' => Exists.intro 26 (x_c152 (fun W3 hW3 => ?_) 25 0 W2 (by omega) (fun q hq => absurd hq (by omega)))) (fun no fk' be' ab' bw' hK' => Exists.intro 26 (x_c152 (fun W3 hW3 => ?_) 25 0 W2 (by omega) (fun q hq => absurd hq (by omega))))
  · exact H1 s j hj hm fk' be' ab' bw' W3 W hK' (fun p hp => (hW3 p hp).trans (hW p hp))
  · exact H0 no fk' be' ab' bw' W3 W hK' (fun p hp => (hW3 p hp).trans (hW p hp))
end
section
variable {n : Nat} {dp : Int32} {al yh ys yf yo yp : Nat → Int32}
theorem ispN {x : Nat} (h5 : n ≤ 5) (hx : x < 25) : isp n (nI (x / 5)) (nI (x % 5)) ↔ x / 5 < n ∧ x % 5 < n := by
  have := isp_iz (n := n) h5 (a := ((x / 5 : Nat) : Int)) (b := ((x % 5 : Nat) : Int)) (by omega) (by omega)
  rw [iz_nat, iz_nat] at this
  rw [this]
  omega
theorem y_m33 {post : Int32 → SY → Prop} {N : Nat → Nat → Int} {x1 x3 : Int32} (h5 : n ≤ 5) (hF : ∀ r, r < n → ∀ c, c < n → yf (5 * r + c) = iz_n (N r c))
    (H : ∀ O : Nat → Int32, (∀ r, r < n → ∀ c, c < n → O (5 * r + c) = iz_n (cs N (r + 1) (c + 1))) → wpY_find (fun r_23 u => match u with | (b1, b2, b3, b4, b5, b6, b7, b8) => ∃ n93 : Nat, wY_mix_93 post x3 b1 b2 n93 0 b3 b4 b5 b6 b7 b8) ((nI n), dp, al, yh, ys, yf, O, yp) x1) :
    ∀ (k p : Nat) (O : Nat → Int32), p + k = 25 → (∀ r, r < n → ∀ c, c < n → 5 * r + c < p → O (5 * r + c) = iz_n (cs N (r + 1) (c + 1))) → wY_mix_33 post x1 x3 (nI n) dp (k + 1) (nI p) al yh ys yf O yp
  | 0, p, O, h, I => by
    have e : p = 25 := by omega
    subst e
    exact pk_le 25 25 (fun _ => H O (fun r hr c hc => I r hr c hc (by omega))) (fun z => absurd z (by omega))
  | k + 1, p, O, h, I => by
    have IH := fun O => y_m33 h5 hF H k (p + 1) O (by omega)
    refine pk_le 25 p (fun z => absurd z (by omega)) (fun hp => ⟨by decide, by decide, ?_⟩)
    rw [m5 (p := p) (by omega), d5 (p := p) (by omega)]
    refine y_isP h5 (fun z => br_f (by decide) ⟨by decide, by decide, ?_⟩) (fun z => br_t rfl ⟨bq_in hp (by omega), ?_⟩)
    · have z' := (ispN h5 hp).mp z
      refine y_co (M := N) h5 z'.1 z'.2 hF ⟨bq_in hp (by omega), ?_⟩
      rw [bq_cl (by omega)]
      refine nm_e (nm_r (nI_1 p) (IH _ (fun r hr c hc hlt => ?_)))
      by_cases q : 5 * r + c = p
      · rw [q, pk_us, show p / 5 = r by omega, show p % 5 = c by omega]
      · rw [pk_un q]; exact I r hr c hc (by omega)
    · rw [bq_cl (by omega)]
      refine nm_e (nm_r (nI_1 p) (IH _ (fun r hr c hc hlt => ?_)))
      rw [pk_un (fun q => z ((ispN h5 hp).mpr ⟨by omega, by omega⟩))]
      exact I r hr c hc (by
        have : 5 * r + c ≠ p := fun q => z ((ispN h5 hp).mpr ⟨by omega, by omega⟩)
        omega)
theorem y_m93 {post : Int32 → SY → Prop} {w : Bool} {M N : Nat → Nat → Int} {x3 : Int32} (h5 : n ≤ 5) (A : Asm n M) (B : Asm n N) (hw : x3 = 0 ↔ w = true) (hF : ∀ r, r < n → ∀ c, c < n → yf (5 * r + c) = iz_n (M r c))
    (H : ∀ O : Nat → Int32, (∀ r, r < n → ∀ c, c < n → O (5 * r + c) = iz_n (Kc w M N (r + 1) (c + 1))) → ∃ q, wY_mix_210 post (nI n) dp q 24 al yh ys yf O yp) :
    ∀ (k p : Nat) (O : Nat → Int32), p + k = 25 → (∀ r, r < n → ∀ c, c < n → O (5 * r + c) = if 5 * r + c < p then iz_n (Kc w M N (r + 1) (c + 1)) else iz_n (cs N (r + 1) (c + 1))) → wY_mix_93 post x3 (nI n) dp (k + 1) (nI p) al yh ys yf O yp
  | 0, p, O, h, I => by
    have e : p = 25 := by omega
    subst e
    exact pk_le 25 25 (fun _ => H O (fun r hr c hc => by rw [I r hr c hc, if_pos (by omega)])) (fun z => absurd z (by omega))
  | k + 1, p, O, h, I => by
    have IH := fun O => y_m93 h5 A B hw hF H k (p + 1) O (by omega)
    refine pk_le 25 p (fun z => absurd z (by omega)) (fun hp => ⟨by decide, by decide, ?_⟩)
    rw [m5 (p := p) (by omega), d5 (p := p) (by omega)]
    have nxt' : ∀ v, (∀ r, r < n → ∀ c, c < n → 5 * r + c = p → v = iz_n (Kc w M N (r + 1) (c + 1))) → wY_mix_93 post x3 (nI n) dp (k + 1) (nI (p + 1)) al yh ys yf (upd O p v) yp := fun v hv => IH _ (fun r hr c hc => by
      by_cases q : 5 * r + c = p
      · rw [if_pos (by omega), ← hv r hr c hc q, q, pk_us]
      · rw [pk_un q, I r hr c hc]
        by_cases q2 : 5 * r + c < p
        · rw [if_pos q2, if_pos (by omega)]
        · rw [if_neg q2, if_neg (by omega)])
    have g174 : ∀ z s, (z = (0 : Int32) → ∀ r, r < n → ∀ c, c < n → 5 * r + c = p → O p = iz_n (Kc w M N (r + 1) (c + 1))) → (¬ z = (0 : Int32) → ∀ r, r < n → ∀ c, c < n → 5 * r + c = p → s = iz_n (Kc w M N (r + 1) (c + 1))) → wY_mix_174 post (wY_mix_93 post x3 (nI n) dp (k + 1)) x3 (nI p) s z (nI n) dp al yh ys yf O yp := by
      intro z s a b
      refine br_c (fun q => ⟨bq_in hp (by omega), bq_in hp (by omega), ?_⟩) (fun q => ⟨bq_in hp (by omega), ?_⟩)
      · rw [bq_cl (by omega)]
        exact nm_e (nm_r (nI_1 p) (nxt' _ (a q)))
      · rw [bq_cl (by omega)]
        exact nm_e (nm_r (nI_1 p) (nxt' _ (b q)))
    have g131 : ∀ s, (∀ r, r < n → ∀ c, c < n → 5 * r + c = p → s = iz_n (cs M (r + 1) (c + 1))) → wY_mix_131 post (wY_mix_93 post x3 (nI n) dp (k + 1)) x3 (nI p) s (nI n) dp al yh ys yf O yp := by
      intro s hs
      have val : ∀ r, r < n → ∀ c, c < n → 5 * r + c = p → O p = iz_n (cs N (r + 1) (c + 1)) := fun r hr c hc q => by
        have := I r hr c hc
        rw [q, if_neg (by omega)] at this
        exact this
      have bd : ∀ r, r < n → ∀ c, c < n → (0 ≤ cs M (r + 1) (c + 1) ∧ cs M (r + 1) (c + 1) ≤ 5) ∧ (0 ≤ cs N (r + 1) (c + 1) ∧ cs N (r + 1) (c + 1) ≤ 5) := fun r hr c hc => by
        have a := Asm_cs A (r := r + 1) (c := c + 1) (by omega) (by omega)
        have b := Asm_cs B (r := r + 1) (c := c + 1) (by omega) (by omega)
        omega
      refine br_c (fun q => ⟨bq_in hp (by omega), ?_⟩) (fun q => ⟨bq_in hp (by omega), ?_⟩)
      · rw [bq_cl (by omega)]
        refine br_c (fun t => g174 _ _ (fun _ r hr c hc e => ?_) (fun q2 => absurd rfl q2)) (fun t => g174 _ _ (fun q2 => absurd q2 (by decide)) (fun _ r hr c hc e => ?_))
        · have b := bd r hr c hc
          rw [hs r hr c hc e, val r hr c hc e, iz_le (by omega) (by omega) (by omega) (by omega)] at t
          rw [val r hr c hc e]
          unfold Kc sl
          rw [if_pos t, if_pos (hw.mp q)]
        · have b := bd r hr c hc
          rw [hs r hr c hc e, val r hr c hc e, iz_le (by omega) (by omega) (by omega) (by omega)] at t
          rw [hs r hr c hc e]
          unfold Kc sl
          rw [if_neg t, if_pos (hw.mp q)]
      · rw [bq_cl (by omega)]
        refine br_c (fun t => g174 _ _ (fun _ r hr c hc e => ?_) (fun q2 => absurd rfl q2)) (fun t => g174 _ _ (fun q2 => absurd q2 (by decide)) (fun _ r hr c hc e => ?_))
        · have b := bd r hr c hc
          rw [hs r hr c hc e, val r hr c hc e, iz_le (by omega) (by omega) (by omega) (by omega)] at t
          rw [val r hr c hc e]
          unfold Kc sl
          rw [if_neg (show ¬ w = true from fun z => q (hw.mpr z))]
          by_cases t2 : cs M (r + 1) (c + 1) ≤ cs N (r + 1) (c + 1)
          · rw [if_pos t2]
            exact congrArg iz_n (by omega)
          · rw [if_neg t2, if_neg (show ¬ w = true from fun z => q (hw.mpr z))]
        · have b := bd r hr c hc
          rw [hs r hr c hc e, val r hr c hc e, iz_le (by omega) (by omega) (by omega) (by omega)] at t
          rw [hs r hr c hc e]
          unfold Kc sl
          rw [if_pos (by omega), if_neg (show ¬ w = true from fun z => q (hw.mpr z))]
    refine y_isP h5 (fun z => br_f (by decide) ⟨by decide, by decide, ?_⟩) (fun z => br_t rfl (g131 _ (fun r hr c hc e => absurd ((ispN h5 hp).mpr ⟨by omega, by omega⟩) z)))
    have z' := (ispN h5 hp).mp z
    refine y_co (M := M) h5 z'.1 z'.2 hF (g131 _ (fun r hr c hc e => ?_))
    rw [show p / 5 = r by omega, show p % 5 = c by omega]
theorem y_m210 {post : Int32 → SY → Prop} {w : Bool} {M N : Nat → Nat → Int} (h5 : n ≤ 5)
    (H : ∀ O : Nat → Int32, (∀ r, r < n → ∀ c, c < n → O (5 * r + c) = iz_n (Dc w M N r c)) → wpY_numberOf (fun r_34 u => (0 ≤ r_34 → post r_34 u) ∧ (¬ 0 ≤ r_34 → post (-3) u)) ((nI n), dp, al, yh, ys, yf, O, yp) 0) :
    ∀ (k : Nat) (O : Nat → Int32), k ≤ 25 → (∀ r, r < n → ∀ c, c < n → O (5 * r + c) = if 5 * r + c < k then iz_n (Kc w M N (r + 1) (c + 1)) else iz_n (Dc w M N r c)) → wY_mix_210 post (nI n) dp (k + 1) (iz_n ((k : Int) - 1)) al yh ys yf O yp
  | 0, O, h, I => br_t (by decide) (H O (fun r hr c hc => by rw [I r hr c hc, if_neg (by omega)]))
  | p + 1, O, h, I => by
    have e : iz_n (((p + 1 : Nat) : Int) - 1) = nI p := by
      rw [← iz_nat]; exact congrArg iz_n (by omega)
    have e2 : nI p + (-1) = iz_n ((p : Int) - 1) := by
      rw [← iz_nat, show (-1 : Int32) = iz_n (-1) from rfl, iz_add]
      rfl
    have IH := fun O => y_m210 (post := post) (w := w) (M := M) (N := N) h5 H p O (by omega)
    have Kv : ∀ r, r < n → ∀ c, c < n → 5 * r + c ≤ p → O (5 * r + c) = iz_n (Kc w M N (r + 1) (c + 1)) := fun r hr c hc q => by rw [I r hr c hc, if_pos (by omega)]
    rw [e]
    have hp : p < 25 := by omega
    -- the last write
    have g285 : ∀ a l b : Int32, (∀ r, r < n → ∀ c, c < n → 5 * r + c = p → a = iz_n (Kc w M N r (c + 1)) ∧ l = iz_n (Kc w M N (r + 1) c) ∧ b = iz_n (Kc w M N r c)) → wY_mix_285 post (wY_mix_210 post (nI n) dp (p + 1)) (nI p) a l b (nI n) dp al yh ys yf O yp := by
      intro a l b hv
      refine And.intro (bq_in hp (by omega)) (And.intro (bq_in hp (by omega)) ?_)
      rw [bq_cl (by omega)]
      refine nm_e (nm_r e2 (IH _ (fun r hr c hc => ?_)))
      by_cases q : 5 * r + c = p
      · have v := hv r hr c hc q
        have k1 := Kv r hr c hc (by omega)
        rw [q] at k1
        rw [if_neg (by omega), q, pk_us, k1, v.1, v.2.1, v.2.2, iz_sub, iz_sub, iz_add]
        unfold Dc
        exact congrArg iz_n (by omega)
      · rw [pk_un q, I r hr c hc]
        by_cases q2 : 5 * r + c < p
        · rw [if_pos q2, if_pos (by omega)]
        · rw [if_neg q2, if_neg (by omega)]
    have g256 : ∀ a l : Int32, (∀ r, r < n → ∀ c, c < n → 5 * r + c = p → a = iz_n (Kc w M N r (c + 1)) ∧ l = iz_n (Kc w M N (r + 1) c)) → wY_mix_256 post (wY_mix_210 post (nI n) dp (p + 1)) (nI p) a l (nI n) dp al yh ys yf O yp := by
      intro a l hv
      refine pk_lt p 5 (fun q => ?_) (fun q => ⟨by decide, ?_⟩)
      · refine g285 a l 0 (fun r hr c hc e => ⟨(hv r hr c hc e).1, (hv r hr c hc e).2, ?_⟩)
        rw [show r = 0 by omega, Kc_r0]; rfl
      · rw [m5 (p := p) (by omega)]
        refine pk_le (p % 5) 0 (fun q2 => ?_) (fun q2 => ?_)
        · refine g285 a l 0 (fun r hr c hc e => ⟨(hv r hr c hc e).1, (hv r hr c hc e).2, ?_⟩)
          rw [show c = 0 by omega, Kc_c0]; rfl
        · have e6 : nI p - 6 = nI (p - 6) := by
            rw [show (6 : Int32) = nI 6 from rfl, pk_sub (by omega)]
          rw [e6, bq_cl (by omega)]
          refine ⟨bq_in (by omega) (by omega), g285 a l _ (fun r hr c hc e => ⟨(hv r hr c hc e).1, (hv r hr c hc e).2, ?_⟩)⟩
          have := Kv (r - 1) (by omega) (c - 1) (by omega) (by omega)
          rw [show r - 1 + 1 = r by omega, show c - 1 + 1 = c by omega, show 5 * (r - 1) + (c - 1) = p - 6 by omega] at this
          exact this
    have g234 : ∀ a : Int32, (∀ r, r < n → ∀ c, c < n → 5 * r + c = p → a = iz_n (Kc w M N r (c + 1))) → wY_mix_234 post (wY_mix_210 post (nI n) dp (p + 1)) (nI p) a (nI n) dp al yh ys yf O yp := by
      intro a hv
      refine And.intro (by decide) ?_
      rw [m5 (p := p) (by omega)]
      refine pk_le (p % 5) 0 (fun q2 => ?_) (fun q2 => ?_)
      · refine g256 a 0 (fun r hr c hc e => ⟨hv r hr c hc e, ?_⟩)
        rw [show c = 0 by omega, Kc_c0]; rfl
      · have e1 : nI p - 1 = nI (p - 1) := by
          rw [show (1 : Int32) = nI 1 from rfl, pk_sub (by omega)]
        rw [e1, bq_cl (by omega)]
        refine ⟨bq_in (by omega) (by omega), g256 a _ (fun r hr c hc e => ⟨hv r hr c hc e, ?_⟩)⟩
        have := Kv r hr (c - 1) (by omega) (by omega)
        rw [show c - 1 + 1 = c by omega, show 5 * r + (c - 1) = p - 1 by omega] at this
        exact this
    refine br_f (nI_pos (by omega)) (pk_lt p 5 (fun q => ?_) (fun q => ?_))
    · refine g234 0 (fun r hr c hc e => ?_)
      rw [show r = 0 by omega, Kc_r0]; rfl
    · have e5 : nI p - 5 = nI (p - 5) := by
        rw [show (5 : Int32) = nI 5 from rfl, pk_sub (by omega)]
      rw [e5, bq_cl (by omega)]
      refine ⟨bq_in (by omega) (by omega), g234 _ (fun r hr c hc e => ?_)⟩
      have := Kv (r - 1) (by omega) c hc (by omega)
      rw [show r - 1 + 1 = r by omega, show 5 * (r - 1) + c = p - 5 by omega] at this
      exact this
end
theorem kth_asm {n : Nat} {al : Nat → Int32} {p : Int32} {s : List Nat} (h1 : 1 ≤ n) (h5 : n ≤ 5) (h : kth n al p = some s) : Asm n (mt n s) := by
  unfold kth at h
  by_cases c : p < 0
  · rw [if_pos c] at h; cases h
  · rw [if_neg c] at h
    exact sq_asm h1 h5 (List.mem_of_getElem? h)
end
section
section
variable {n : Nat} {dp : Int32} {al yh ys yf yo yp : Nat → Int32}
theorem y_mixW {post : Int32 → SY → Prop} {w : Bool} {s t : List Nat} {x1 x3 : Int32} (h1 : 1 ≤ n) (h5 : n ≤ 5) (hs : kth n al x1 = some s) (ht : Asm n (mt n t)) (hw : x3 = 0 ↔ w = true) (hF : Sh n t yf)
    (H1 : ∀ (q : List Nat) (j : Nat), (sq n (al_row al n) n 0)[j]? = some q → mm n (Dc w (mt n s) (mt n t)) q → ∀ (d : Int32) (ys' yf' yo' : Nat → Int32), post (nI j) ((nI n), d, al, yh, ys', yf', yo', yp))
    (H0 : (∀ q, q ∈ sq n (al_row al n) n 0 → ¬ mm n (Dc w (mt n s) (mt n t)) q) → ∀ (d : Int32) (ys' yf' yo' : Nat → Int32), post (-3) ((nI n), d, al, yh, ys', yf', yo', yp)) : ∃ q, wY_mix_33 post x1 x3 (nI n) dp q 0 al yh ys yf yo yp := by
  have A := kth_asm h1 h5 hs
  refine ⟨26, y_m33 (N := mt n t) h5 hF (fun O hO => ?_) 25 0 yo (by omega) (fun r hr c hc hlt => absurd hlt (by omega))⟩
  refine y_find h1 h5 (fun z => no_some z hs) (fun s' hs' d zs F hF' => ?_)
  rw [hs] at hs'
  cases hs'
  refine Exists.intro 26 (y_m93 (w := w) (M := mt n s) (N := mt n t) h5 A ht hw hF' (fun O2 hO2 => ⟨26, ?_⟩) 25 0 O (by omega) (fun r hr c hc => by rw [if_neg (by omega)]; exact hO r hr c hc))
  refine y_m210 (w := w) (M := mt n s) (N := mt n t) h5 (fun O3 hO3 => ?_) 25 O2 (by omega) (fun r hr c hc => by rw [if_pos (by omega)]; exact hO2 r hr c hc)
  refine y_num (M := Dc w (mt n s) (mt n t)) h1 h5 (fun r hr c hc => Dc_r A ht hr hc) (fun r hr c hc => ⟨fun _ => hO3 r hr c hc, fun z => absurd rfl z⟩) (fun q j hj hm d' zs' => ?_) (fun no d' zs' => ?_)
  · have hl := (List.getElem?_eq_some_iff.mp hj).1
    have hb := sq_bd5 (A := al_row al n) h5 h5 0
    exact br_t (nI_pos' (by omega)) (H1 q j hj hm _ _ _ _)
  · exact br_f (by decide) (H0 no _ _ _ _)
end
theorem i_vc_mix {k : Nat} {u : SX} {v : SY} (I : i_Rel k u v) (hk : k + 4 ≤ 2049) (v1 : Int32) (v2 : Int32) (v3 : Int32) : wpX_mix (fun r u' => wpY_mix (fun r' v' => r' = r ∧ i_Rel (k + 4) u' v') v v1 v2 v3) u v1 v2 v3 := by
  refine rel_e (P := fun u v => wpX_mix (fun r u' => wpY_mix (fun r' v' => r' = r ∧ i_Rel (k + 4) u' v') v v1 v2 v3) u v1 v2 v3) ?_ I
  intro n M fk ar ac cb al hd be ab bw wk fl fa co se dp yh ys yf yo yp h1 h5 hK hM
  unfold wpX_mix wpY_mix
  dsimp only
  refine x_lay h1 h5 hK (fun hn fk' be' ab' bw' hK' => br_t rfl ?_) (fun s hs fk' be' ab' bw' W FL FA hK' hW hS => br_f (by decide) (x_lc (f := 0) h5 (by omega) hS (fun C hC _ => ?_)))
  · exact y_find h1 h5 (fun _ d zs => br_t rfl ⟨rfl, rel_i h1 h5 (Or.inr hK') hM⟩) (fun s hs => no_some hn hs)
  have As := kth_asm h1 h5 hs
  refine x_lay h1 h5 (Or.inr hK') (fun hn fk2 be2 ab2 bw2 hK2 => br_t rfl ?_) (fun t ht fk2 be2 ab2 bw2 W2 FL2 FA2 hK2 hW2 hS2 => br_f (by decide) (x_lc (f := 25) h5 (by omega) hS2 (fun C2 hC2 hC3 => ?_)))
  · refine y_find h1 h5 (fun z => no_some z hs) (fun s' hs' d zs F hF => br_f (by decide) ?_)
    exact y_find h1 h5 (fun _ d zs => br_t rfl ⟨rfl, rel_i h1 h5 (Or.inr hK2) hM⟩) (fun s hs => no_some hn hs)
  have At := kth_asm h1 h5 ht
  -- the corner sums lie there
  have cA : ∀ r, r < n → ∀ c, c < n → C2 (5 * r + c) = iz_n (cs (mt n s) (r + 1) (c + 1)) := fun r hr c hc => by
    rw [hC3 _ (Or.inl (by omega))]
    have := hC r hr c hc
    rw [Nat.zero_add] at this
    exact this
  -- both answer with the number
  have go_ : ∀ w : Bool, (v3 = 0 ↔ w = true) → ¬ v3 < 0 → v3 ≤ 1 → (v3 = 0 ∨ v3 = 1) →
      ∃ n54 : Nat, wX_mix_54 (fun r u' => wpY_find (fun r_1 u => match u with
        | (f_size_2, f_depth_3, a_allowed_4, a_hand_5, a_square_6, a_found_7, a_other_8, a_passed_9) => (r_1 = 0 → -1 = r ∧ i_Rel (k + 4) u' (f_size_2, f_depth_3, a_allowed_4, a_hand_5, a_square_6, a_found_7, a_other_8, a_passed_9)) ∧ (¬ r_1 = 0 → wpY_find (fun r_11 u => match u with
          | (f_size_12, f_depth_13, a_allowed_14, a_hand_15, a_square_16, a_found_17, a_other_18, a_passed_19) => (r_11 = 0 → -1 = r ∧ i_Rel (k + 4) u' (f_size_12, f_depth_13, a_allowed_14, a_hand_15, a_square_16, a_found_17, a_other_18, a_passed_19)) ∧ (¬ r_11 = 0 → (v3 = 0 → ∃ n33 : Nat, wY_mix_33 (fun r' v' => r' = r ∧ i_Rel (k + 4) u' v') v1 v3 f_size_12 f_depth_13 n33 0 a_allowed_14 a_hand_15 a_square_16 a_found_17 a_other_18 a_passed_19) ∧ (¬ v3 = 0 → (v3 = 1 → ∃ n33 : Nat, wY_mix_33 (fun r' v' => r' = r ∧ i_Rel (k + 4) u' v') v1 v3 f_size_12 f_depth_13 n33 0 a_allowed_14 a_hand_15 a_square_16 a_found_17 a_other_18 a_passed_19) ∧ (¬ v3 = 1 → -2 = r ∧ i_Rel (k + 4) u' (f_size_12, f_depth_13, a_allowed_14, a_hand_15, a_square_16, a_found_17, a_other_18, a_passed_19))))) (f_size_2, f_depth_3, a_allowed_4, a_hand_5, a_square_6, a_found_7, a_other_8, a_passed_9) v2)) ((nI n), dp, al, yh, ys, yf, yo, yp) v1) v3 (nI n) (nI (tb_R n)) fk2 ar ac cb n54 0 (tP n) (tM n) al hd be2 ab2 bw2 W2 FL2 FA2 C2 se := by
    intro w hw a b hv
    refine ⟨26, x_m54 (fun C4 hC4 => ?_) 25 0 C2 (by omega) (fun q hq => absurd hq (by omega)) (fun _ _ => rfl)⟩
    have cK : ∀ r, r < n → ∀ c, c < n → C4 (5 * r + c) = iz_n (Kc w (mt n s) (mt n t) (r + 1) (c + 1)) := fun r hr c hc => by
      have b1 := Asm_cs As (r := r + 1) (c := c + 1) (by omega) (by omega)
      have b2 := Asm_cs At (r := r + 1) (c := c + 1) (by omega) (by omega)
      rw [hC4 _ (by omega), cA r hr c hc, hC2 r hr c hc, slI_iz hw (by omega) (by omega)]
      rfl
    have hnd : ∀ hd' : Nat → Int32, (∀ p, p < 25 → hd' p = hd p) → HM n M hd' yh := fun hd' hh r hr c hc => by
      rw [hh _ (by omega)]
      exact hM r hr c hc
    have Y : ∀ (r0 : Int32) (u' : SX), (∀ (d : Int32) (ys' yf' yo' : Nat → Int32), i_Rel (k + 4) u' ((nI n), d, al, yh, ys', yf', yo', yp)) →
        ((∃ (q : List Nat) (j : Nat), r0 = nI j ∧ (sq n (al_row al n) n 0)[j]? = some q ∧ mm n (Dc w (mt n s) (mt n t)) q) ∨ (r0 = -3 ∧ ∀ q, q ∈ sq n (al_row al n) n 0 → ¬ mm n (Dc w (mt n s) (mt n t)) q)) →
        wpY_find (fun r_1 u => match u with
        | (f_size_2, f_depth_3, a_allowed_4, a_hand_5, a_square_6, a_found_7, a_other_8, a_passed_9) => (r_1 = 0 → -1 = r0 ∧ i_Rel (k + 4) u' (f_size_2, f_depth_3, a_allowed_4, a_hand_5, a_square_6, a_found_7, a_other_8, a_passed_9)) ∧ (¬ r_1 = 0 → wpY_find (fun r_11 u => match u with
          | (f_size_12, f_depth_13, a_allowed_14, a_hand_15, a_square_16, a_found_17, a_other_18, a_passed_19) => (r_11 = 0 → -1 = r0 ∧ i_Rel (k + 4) u' (f_size_12, f_depth_13, a_allowed_14, a_hand_15, a_square_16, a_found_17, a_other_18, a_passed_19)) ∧ (¬ r_11 = 0 → (v3 = 0 → ∃ n33 : Nat, wY_mix_33 (fun r' v' => r' = r0 ∧ i_Rel (k + 4) u' v') v1 v3 f_size_12 f_depth_13 n33 0 a_allowed_14 a_hand_15 a_square_16 a_found_17 a_other_18 a_passed_19) ∧ (¬ v3 = 0 → (v3 = 1 → ∃ n33 : Nat, wY_mix_33 (fun r' v' => r' = r0 ∧ i_Rel (k + 4) u' v') v1 v3 f_size_12 f_depth_13 n33 0 a_allowed_14 a_hand_15 a_square_16 a_found_17 a_other_18 a_passed_19) ∧ (¬ v3 = 1 → -2 = r0 ∧ i_Rel (k + 4) u' (f_size_12, f_depth_13, a_allowed_14, a_hand_15, a_square_16, a_found_17, a_other_18, a_passed_19))))) (f_size_2, f_depth_3, a_allowed_4, a_hand_5, a_square_6, a_found_7, a_other_8, a_passed_9) v2)) ((nI n), dp, al, yh, ys, yf, yo, yp) v1 := by
      intro r0 u' hR hans
      refine y_find h1 h5 (fun z => no_some z hs) (fun s' hs' d zs F hF => br_f (by decide) (y_find h1 h5 (fun z => no_some z ht) (fun t' ht' d2 zs2 F2 hF2 => br_f (by decide) ?_)))
      rw [ht] at ht'
      cases ht'
      have fin : ∃ n33 : Nat, wY_mix_33 (fun r' v' => r' = r0 ∧ i_Rel (k + 4) u' v') v1 v3 (nI n) d2 n33 0 al yh zs2 F2 yo yp := by
        refine y_mixW (w := w) (s := s) (t := t) h1 h5 hs At hw hF2 (fun q j hj hm d3 ys3 yf3 yo3 => ⟨?_, hR _ _ _ _⟩) (fun no d3 ys3 yf3 yo3 => ⟨?_, hR _ _ _ _⟩)
        · rcases hans with ⟨q', j', e, hj', hm'⟩ | ⟨_, no⟩
          · rw [e, num_eq h5 hj hj' hm hm']
          · exact absurd hm (no q (List.mem_of_getElem? hj))
        · rcases hans with ⟨q', j', e, hj', hm'⟩ | ⟨e, _⟩
          · exact absurd hm' (no q' (List.mem_of_getElem? hj'))
          · exact e.symm
      rcases hv with z | z
      · exact br_t z fin
      · exact br_f (by rw [z]; decide) (br_t z fin)
    refine x_rc (w := w) (M := mt n s) (N := mt n t) h1 h5 As At (Or.inr hK2) cK (fun q j hj hm fk3 be3 ab3 bw3 hd3 wk3 hK3 hh => ?_) (fun no fk3 be3 ab3 bw3 hd3 wk3 hK3 hh => ?_)
    · have hl := (List.getElem?_eq_some_iff.mp hj).1
      have hb := sq_bd5 (A := al_row al n) h5 h5 0
      exact br_t (nI_pos' (by omega)) (Y _ _ (fun d ys' yf' yo' => rel_i h1 h5 hK3 (hnd hd3 hh)) (Or.inl ⟨q, j, rfl, hj, hm⟩))
    · exact br_f (by decide) (Y _ _ (fun d ys' yf' yo' => rel_i h1 h5 hK3 (hnd hd3 hh)) (Or.inr ⟨rfl, no⟩))
  have bad : ¬ v3 = 0 → ¬ v3 = 1 → ∀ u' : SX, (∀ (d : Int32) (ys' yf' yo' : Nat → Int32), i_Rel (k + 4) u' ((nI n), d, al, yh, ys', yf', yo', yp)) → wpY_find (fun r_1 u => match u with
        | (f_size_2, f_depth_3, a_allowed_4, a_hand_5, a_square_6, a_found_7, a_other_8, a_passed_9) => (r_1 = 0 → (-1 : Int32) = -2 ∧ i_Rel (k + 4) u' (f_size_2, f_depth_3, a_allowed_4, a_hand_5, a_square_6, a_found_7, a_other_8, a_passed_9)) ∧ (¬ r_1 = 0 → wpY_find (fun r_11 u => match u with
          | (f_size_12, f_depth_13, a_allowed_14, a_hand_15, a_square_16, a_found_17, a_other_18, a_passed_19) => (r_11 = 0 → (-1 : Int32) = -2 ∧ i_Rel (k + 4) u' (f_size_12, f_depth_13, a_allowed_14, a_hand_15, a_square_16, a_found_17, a_other_18, a_passed_19)) ∧ (¬ r_11 = 0 → (v3 = 0 → ∃ n33 : Nat, wY_mix_33 (fun r' v' => r' = -2 ∧ i_Rel (k + 4) u' v') v1 v3 f_size_12 f_depth_13 n33 0 a_allowed_14 a_hand_15 a_square_16 a_found_17 a_other_18 a_passed_19) ∧ (¬ v3 = 0 → (v3 = 1 → ∃ n33 : Nat, wY_mix_33 (fun r' v' => r' = -2 ∧ i_Rel (k + 4) u' v') v1 v3 f_size_12 f_depth_13 n33 0 a_allowed_14 a_hand_15 a_square_16 a_found_17 a_other_18 a_passed_19) ∧ (¬ v3 = 1 → (-2 : Int32) = -2 ∧ i_Rel (k + 4) u' (f_size_12, f_depth_13, a_allowed_14, a_hand_15, a_square_16, a_found_17, a_other_18, a_passed_19))))) (f_size_2, f_depth_3, a_allowed_4, a_hand_5, a_square_6, a_found_7, a_other_8, a_passed_9) v2)) ((nI n), dp, al, yh, ys, yf, yo, yp) v1 := by
    intro n0 n1 u' hR
    exact y_find h1 h5 (fun z => no_some z hs) (fun s' hs' d zs F hF => br_f (by decide) (y_find h1 h5 (fun z => no_some z ht) (fun t' ht' d2 zs2 F2 hF2 => br_f (by decide) (br_f n0 (br_f n1 ⟨rfl, hR _ _ _ _⟩)))))
  by_cases a : v3 < 0
  · refine br_t a (bad (fun z => ?_) (fun z => ?_) _ (fun d ys' yf' yo' => rel_i h1 h5 (Or.inr hK2) hM))
    · rw [z] at a; exact absurd a (by decide)
    · rw [z] at a; exact absurd a (by decide)
  · by_cases b : v3 ≤ 1
    · obtain ⟨j, hj, rfl⟩ := nI_of a
      have hj1 : j ≤ 1 := (nI_leI (b := 1) hj (by omega)).mp b
      have hv : nI j = 0 ∨ nI j = 1 := by
        have : j = 0 ∨ j = 1 := by omega
        rcases this with rfl | rfl
        · exact Or.inl rfl
        · exact Or.inr rfl
      exact br_f a (br_t b (go_ (decide (nI j = 0)) decide_eq_true_iff.symm a b hv))
    · refine br_f a (br_f b (bad (fun z => ?_) (fun z => ?_) _ (fun d ys' yf' yo' => rel_i h1 h5 (Or.inr hK2) hM)))
      · rw [z] at b; exact absurd (by decide) b
      · rw [z] at b; exact absurd (by decide) b
end
section
/-! which sides are on -/
def ino (M : Nat → Nat → Int) (r c s : Nat) : Bool :=
  if s = 1 then decide (si (M r) (c + 1) = 1) else if s = 2 then decide (si (fun k => M k c) (r + 1) = 0) else if s = 0 then decide (si (fun k => M k c) r = 1) else decide (si (M r) c = 0)
def onf (M : Nat → Nat → Int) (r c s : Nat) : Bool := ino M r c s == decide ((r + c) % 2 = 0)
theorem on_flip {x : Int} {a b : Nat} (hx : 0 ≤ x ∧ x ≤ 1) (hab : a % 2 ≠ b % 2) : (decide (x = 0) == decide (a % 2 = 0)) = (decide (x = 1) == decide (b % 2 = 0)) := by
  have h : x = 0 ∨ x = 1 := by omega
  have q : a % 2 = 0 ∧ b % 2 = 1 ∨ a % 2 = 1 ∧ b % 2 = 0 := by omega
  rcases h with rfl | rfl <;> rcases q with ⟨p, q⟩ | ⟨p, q⟩ <;> rw [p, q] <;> decide
theorem two_b (a a' b b' : Int) (e : Bool) (h1 : 0 ≤ a ∧ a ≤ 1) (h2 : 0 ≤ a' ∧ a' ≤ 1) (h3 : 0 ≤ b ∧ b ≤ 1) (h4 : 0 ≤ b' ∧ b' ≤ 1) (h : a' - a = b' - b) :
    (decide (b = 1) == e).toNat + (decide (a' = 1) == e).toNat + (decide (b' = 0) == e).toNat + (decide (a = 0) == e).toNat = 2 := by
  have x1 : a = 0 ∨ a = 1 := by omega
  have x2 : a' = 0 ∨ a' = 1 := by omega
  have x3 : b = 0 ∨ b = 1 := by omega
  have x4 : b' = 0 ∨ b' = 1 := by omega
  rcases x1 with rfl | rfl <;> rcases x2 with rfl | rfl <;> rcases x3 with rfl | rfl <;> rcases x4 with rfl | rfl <;> first | omega | (cases e <;> decide)
theorem on_FP {n : Nat} {M : Nat → Nat → Int} (A : Asm n M) : FP n (onf M) := by
  refine ⟨fun r c hr hc => ?_, fun r c s r' c' hr hc hs h => ?_⟩
  · refine two_b (si (M r) c) (si (M r) (c + 1)) (si (fun k => M k c) r) (si (fun k => M k c) (r + 1)) _ (A.1 r hr c (by omega)) (A.1 r hr (c + 1) (by omega)) (A.2.2.1 c hc r (by omega)) (A.2.2.1 c hc (r + 1) (by omega)) ?_
    show si (M r) c + M r c - si (M r) c = si (fun k => M k c) r + M r c - si (fun k => M k c) r
    omega
  · revert h
    revert s
    refine s4 ?_ ?_ ?_ ?_
    · rw [nb_0]
      intro h
      by_cases q : r = 0
      · rw [if_pos q] at h; cases h
      · rw [if_neg q] at h
        cases h
        show (decide (si (fun k => M k c) (r - 1 + 1) = 0) == decide ((r - 1 + c) % 2 = 0)) = (decide (si (fun k => M k c) r = 1) == decide ((r + c) % 2 = 0))
        rw [show r - 1 + 1 = r by omega]
        exact on_flip (A.2.2.1 c hc r (by omega)) (by omega)
    · rw [nb_1]
      intro h
      by_cases q : c + 1 < n
      · rw [if_pos q] at h
        cases h
        show (decide (si (M r) (c + 1) = 0) == decide ((r + (c + 1)) % 2 = 0)) = (decide (si (M r) (c + 1) = 1) == decide ((r + c) % 2 = 0))
        exact on_flip (A.1 r hr (c + 1) (by omega)) (by omega)
      · rw [if_neg q] at h; cases h
    · rw [nb_2]
      intro h
      by_cases q : r + 1 < n
      · rw [if_pos q] at h
        cases h
        show (decide (si (fun k => M k c) (r + 1) = 1) == decide ((r + 1 + c) % 2 = 0)) = (decide (si (fun k => M k c) (r + 1) = 0) == decide ((r + c) % 2 = 0))
        exact (on_flip (A.2.2.1 c hc (r + 1) (by omega)) (by omega)).symm
      · rw [if_neg q] at h; cases h
    · rw [nb_3]
      intro h
      by_cases q : c = 0
      · rw [if_pos q] at h; cases h
      · rw [if_neg q] at h
        cases h
        show (decide (si (M r) (c - 1 + 1) = 1) == decide ((r + (c - 1)) % 2 = 0)) = (decide (si (M r) c = 0) == decide ((r + c) % 2 = 0))
        rw [show c - 1 + 1 = c by omega]
        exact (on_flip (A.1 r hr c (by omega)) (by omega)).symm
theorem m2 {p : Nat} (hp : p < 1000) : nI p - nI p / 2 * 2 = nI (p % 2) := by
  rw [show (2 : Int32) = nI 2 from rfl, pk_rem (by omega) (by omega) (by omega)]
/-- a flag as an int -/
def fg (z : Int32) (b : Bool) : Prop := (z = 1 ∧ b = true) ∨ (z = 0 ∧ b = false)
section
variable {n : Nat} {fk ar ac cb : Int32} {al hd be ab bw wk fl fa co se : Nat → Int32}
theorem x_112 {post : Int32 → Prop} {r c : Nat} {z : Int32} {b : Bool} (h : r + c < 100) (hz : fg z b) (H1 : (b == decide ((r + c) % 2 = 0)) = true → post 1) (H0 : (b == decide ((r + c) % 2 = 0)) = false → post 0) : wX_isOn_112 post (nI r) (nI c) z (nI n) (nI (tb_R n)) fk ar ac cb (tP n) (tM n) al hd be ab bw wk fl fa co se := by
  refine And.intro (by decide) ?_
  rw [nI_add, m2 (by omega)]
  refine pk_eq ((r + c) % 2) 0 (fun e => ?_) (fun e => ?_)
  · rw [decide_eq_true e] at H1 H0
    rcases hz with ⟨rfl, rfl⟩ | ⟨rfl, rfl⟩
    · exact br_t rfl (H1 rfl)
    · exact br_f (by decide) (H0 rfl)
  · rw [decide_eq_false e] at H1 H0
    rcases hz with ⟨rfl, rfl⟩ | ⟨rfl, rfl⟩
    · exact br_f (by decide) (H0 rfl)
    · exact br_t rfl (H1 rfl)
theorem x_on {post : Int32 → Prop} {M : Nat → Nat → Int} {r c : Nat} (h5 : n ≤ 5) (hr : r < n) (hc : c < n) (A : Asm n M) (hS : SU n M n 0 fl fa) : ∀ s, s < 4 → (onf M r c s = true → post 1) → (onf M r c s = false → post 0) → wpX_isOn post ((nI n), (nI (tb_R n)), fk, ar, ac, cb, (tP n), (tM n), al, hd, be, ab, bw, wk, fl, fa, co, se) (nI r) (nI c) (nI s) := by
  have eL := (hS r c hc (Or.inl hr)).1
  have eA := (hS r c hc (Or.inl hr)).2
  have bL := A.1 r hr (c + 1) (by omega)
  have bA := A.2.2.1 c hc (r + 1) (by omega)
  refine s4 ?_ ?_ ?_ ?_
  · intro H1 H0
    unfold wpX_isOn
    dsimp only
    refine x_pl ?_
    refine br_f (by decide) (br_f (by decide) (br_t rfl (pk_le r 0 (fun q => ?_) (fun q => ?_))))
    · refine x_112 (b := decide (si (fun k => M k c) r = 1)) (by omega) (Or.inr ⟨rfl, ?_⟩) H1 H0
      rw [show r = 0 by omega]; rfl
    · have e5 : nI (5 * r + c) - 5 = nI (5 * (r - 1) + c) := by
        rw [show (5 : Int32) = nI 5 from rfl, pk_sub (by omega)]
        exact congrArg nI (by omega)
      have e2 := (hS (r - 1) c hc (Or.inl (by omega))).2
      rw [show r - 1 + 1 = r by omega] at e2
      have b2 := A.2.2.1 c hc r (by omega)
      rw [e5, bq_cl (by omega), e2]
      refine ⟨bq_in (by omega) (by omega), iz_beq (si (fun k => M k c) r) 1 (fun w => ?_) (fun w => ?_)⟩
      · exact x_112 (b := decide (si (fun k => M k c) r = 1)) (by omega) (Or.inl ⟨rfl, decide_eq_true w⟩) H1 H0
      · exact x_112 (b := decide (si (fun k => M k c) r = 1)) (by omega) (Or.inr ⟨rfl, decide_eq_false w⟩) H1 H0
  · intro H1 H0
    unfold wpX_isOn
    dsimp only
    refine x_pl ?_
    refine br_t rfl ?_
    rw [bq_cl (by omega), eL]
    refine ⟨bq_in (by omega) (by omega), iz_beq (si (M r) (c + 1)) 1 (fun w => ?_) (fun w => ?_)⟩
    · exact x_112 (b := decide (si (M r) (c + 1) = 1)) (by omega) (Or.inl ⟨rfl, decide_eq_true w⟩) H1 H0
    · exact x_112 (b := decide (si (M r) (c + 1) = 1)) (by omega) (Or.inr ⟨rfl, decide_eq_false w⟩) H1 H0
  · intro H1 H0
    unfold wpX_isOn
    dsimp only
    refine x_pl ?_
    refine br_f (by decide) (br_t rfl ?_)
    rw [bq_cl (by omega), eA]
    refine ⟨bq_in (by omega) (by omega), iz_beq (si (fun k => M k c) (r + 1)) 0 (fun w => ?_) (fun w => ?_)⟩
    · exact x_112 (b := decide (si (fun k => M k c) (r + 1) = 0)) (by omega) (Or.inl ⟨rfl, decide_eq_true w⟩) H1 H0
    · exact x_112 (b := decide (si (fun k => M k c) (r + 1) = 0)) (by omega) (Or.inr ⟨rfl, decide_eq_false w⟩) H1 H0
  · intro H1 H0
    unfold wpX_isOn
    dsimp only
    refine x_pl ?_
    refine br_f (by decide) (br_f (by decide) (br_f (by decide) (pk_eq c 0 (fun q => ?_) (fun q => ?_))))
    · refine x_112 (b := decide (si (M r) c = 0)) (by omega) (Or.inl ⟨rfl, ?_⟩) H1 H0
      rw [q]; rfl
    · have e1 : nI (5 * r + c) - 1 = nI (5 * r + (c - 1)) := by
        rw [show (1 : Int32) = nI 1 from rfl, pk_sub (by omega)]
        exact congrArg nI (by omega)
      have e2 := (hS r (c - 1) (by omega) (Or.inl hr)).1
      rw [show c - 1 + 1 = c by omega] at e2
      have b2 := A.1 r hr c (by omega)
      rw [e1, bq_cl (by omega), e2]
      refine ⟨bq_in (by omega) (by omega), iz_beq (si (M r) c) 0 (fun w => ?_) (fun w => ?_)⟩
      · exact x_112 (b := decide (si (M r) c = 0)) (by omega) (Or.inl ⟨rfl, decide_eq_true w⟩) H1 H0
      · exact x_112 (b := decide (si (M r) c = 0)) (by omega) (Or.inr ⟨rfl, decide_eq_false w⟩) H1 H0
end
section
variable {n : Nat} {dp : Int32} {al yh ys yf yo yp : Nat → Int32}
theorem y_sa5 {post : Int32 → Prop} {r c : Nat} {f : Nat → Int} (hr : r < 5) (hc : c < 5)
    (hf : ∀ j, j < c + 1 → yf (5 * r + j) = iz_n (f j)) (H : post (iz_n (si f (c + 1)))) :
    ∀ (k j : Nat), j + k = c + 1 → wY_sumAcross_5 post (nI r) (nI c) (nI n) dp al yh ys yf yo yp (k + 1) (iz_n (si f j)) (nI j)
  | 0, j, h => by
    have e : j = c + 1 := by omega
    subst e
    exact pk_lt c (c + 1) (fun _ => H) (fun z => absurd z (by omega))
  | k + 1, j, h => by
    refine pk_lt c j (fun z => absurd z (by omega)) (fun _ => ?_)
    rw [bq_pl, bq_cl (by omega), hf j (by omega)]
    exact ⟨bq_in (by omega) (by omega), nm_r (e' := iz_n (si f (j + 1))) (iz_add _ _) (nm_r (nI_1 j) (y_sa5 hr hc hf H k (j + 1) (by omega)))⟩
theorem y_sd5 {post : Int32 → Prop} {r c : Nat} {f : Nat → Int} (hr : r < 5) (hc : c < 5)
    (hf : ∀ j, j < r + 1 → yf (5 * j + c) = iz_n (f j)) (H : post (iz_n (si f (r + 1)))) :
    ∀ (k j : Nat), j + k = r + 1 → wY_sumDown_5 post (nI r) (nI c) (nI n) dp al yh ys yf yo yp (k + 1) (iz_n (si f j)) (nI j)
  | 0, j, h => by
    have e : j = r + 1 := by omega
    subst e
    exact pk_lt r (r + 1) (fun _ => H) (fun z => absurd z (by omega))
  | k + 1, j, h => by
    refine pk_lt r j (fun z => absurd z (by omega)) (fun _ => ?_)
    rw [bq_pl, bq_cl (by omega), hf j (by omega)]
    exact ⟨bq_in (by omega) (by omega), nm_r (e' := iz_n (si f (j + 1))) (iz_add _ _) (nm_r (nI_1 j) (y_sd5 hr hc hf H k (j + 1) (by omega)))⟩
theorem y_sa {post : Int32 → Prop} {M : Nat → Nat → Int} {r c : Nat} (h5 : n ≤ 5) (hr : r < n) (hc : c < n) (hF : ∀ r, r < n → ∀ c, c < n → yf (5 * r + c) = iz_n (M r c)) (H : post (iz_n (si (M r) (c + 1)))) : wpY_sumAcross post ((nI n), dp, al, yh, ys, yf, yo, yp) (nI r) (nI c) :=
  Exists.intro (c + 1 + 1) (y_sa5 (f := M r) (by omega) (by omega) (fun j hj => hF r hr j (by omega)) H (c + 1) 0 (by omega))
theorem y_sd {post : Int32 → Prop} {M : Nat → Nat → Int} {r c : Nat} (h5 : n ≤ 5) (hr : r < n) (hc : c < n) (hF : ∀ r, r < n → ∀ c, c < n → yf (5 * r + c) = iz_n (M r c)) (H : post (iz_n (si (fun k => M k c) (r + 1)))) : wpY_sumDown post ((nI n), dp, al, yh, ys, yf, yo, yp) (nI r) (nI c) :=
  Exists.intro (r + 1 + 1) (y_sd5 (f := fun k => M k c) (by omega) (by omega) (fun j hj => hF j (by omega) c hc) H (r + 1) 0 (by omega))
theorem y_lo {post : Int32 → Prop} {M : Nat → Nat → Int} {r c : Nat} (h5 : n ≤ 5) (hr : r < n) (hc : c < n) (A : Asm n M) (hF : ∀ r, r < n → ∀ c, c < n → yf (5 * r + c) = iz_n (M r c)) : ∀ s, s < 4 → (ino M r c s = true → post 0) → (ino M r c s = false → post 1) → wpY_leadsOut post ((nI n), dp, al, yh, ys, yf, yo, yp) (nI r) (nI c) (nI s) := by
  have bL := A.1 r hr (c + 1) (by omega)
  have bA := A.2.2.1 c hc (r + 1) (by omega)
  refine s4 ?_ ?_ ?_ ?_
  · intro H0 H1
    refine br_t rfl (pk_eq r 0 (fun q => H1 ?_) (fun q => ?_))
    · show decide (si (fun k => M k c) r = 1) = false
      rw [q]; rfl
    · have e1 : nI r - 1 = nI (r - 1) := by
        rw [show (1 : Int32) = nI 1 from rfl, pk_sub (by omega)]
      have b2 := A.2.2.1 c hc r (by omega)
      rw [e1]
      refine y_sd h5 (by omega) hc hF ?_
      rw [show r - 1 + 1 = r by omega]
      exact iz_beq (si (fun k => M k c) r) 0 (fun w => H1 (decide_eq_false (by omega))) (fun w => H0 (decide_eq_true (by omega)))
  · intro H0 H1
    refine br_f (by decide) (br_t rfl (y_sa h5 hr hc hF ?_))
    exact iz_beq (si (M r) (c + 1)) 0 (fun w => H1 (decide_eq_false (by omega))) (fun w => H0 (decide_eq_true (by omega)))
  · intro H0 H1
    refine br_f (by decide) (br_f (by decide) (br_t rfl (y_sd h5 hr hc hF ?_)))
    exact iz_beq (si (fun k => M k c) (r + 1)) 1 (fun w => H1 (decide_eq_false (by omega))) (fun w => H0 (decide_eq_true (by omega)))
  · intro H0 H1
    refine br_f (by decide) (br_f (by decide) (br_f (by decide) (pk_le c 0 (fun q => H0 ?_) (fun q => ?_))))
    · show decide (si (M r) c = 0) = true
      rw [show c = 0 by omega]; rfl
    · have e1 : nI c - 1 = nI (c - 1) := by
        rw [show (1 : Int32) = nI 1 from rfl, pk_sub (by omega)]
      have b2 := A.1 r hr c (by omega)
      rw [e1]
      refine y_sa h5 hr (by omega) hF ?_
      rw [show c - 1 + 1 = c by omega]
      exact iz_beq (si (M r) c) 1 (fun w => H1 (decide_eq_false (by omega))) (fun w => H0 (decide_eq_true (by omega)))
theorem y_on {post : Int32 → Prop} {M : Nat → Nat → Int} {r c s : Nat} (h5 : n ≤ 5) (hr : r < n) (hc : c < n) (A : Asm n M) (hF : ∀ r, r < n → ∀ c, c < n → yf (5 * r + c) = iz_n (M r c)) (hs : s < 4) (H1 : onf M r c s = true → post 1) (H0 : onf M r c s = false → post 0) : wpY_isOn post ((nI n), dp, al, yh, ys, yf, yo, yp) (nI r) (nI c) (nI s) := by
  unfold wpY_isOn
  dsimp only
  have e : onf M r c s = (ino M r c s == decide ((r + c) % 2 = 0)) := rfl
  rw [e] at H1 H0
  refine y_lo h5 hr hc A hF s hs (fun q => ⟨by decide, ?_⟩) (fun q => ⟨by decide, ?_⟩)
  · rw [q] at H1 H0
    rw [nI_add, m2 (by omega)]
    refine pk_eq ((r + c) % 2) 1 (fun w => ?_) (fun w => ?_)
    · rw [decide_eq_false (by omega)] at H0
      exact br_f (by decide) (H0 rfl)
    · rw [decide_eq_true (by omega)] at H1
      exact br_t rfl (H1 rfl)
  · rw [q] at H1 H0
    rw [nI_add, m2 (by omega)]
    refine pk_eq ((r + c) % 2) 1 (fun w => ?_) (fun w => ?_)
    · rw [decide_eq_false (by omega)] at H1
      exact br_t rfl (H1 rfl)
    · rw [decide_eq_true (by omega)] at H0
      exact br_f (by decide) (H0 rfl)
end
end
section
/-! going along the sides that are on -/
theorem ot_1st {f : Nat → Bool} {a : Nat} : ∀ s, s < 4 → (∀ j, j < s → ¬ (j ≠ a ∧ f j = true)) → s ≠ a → f s = true → ot f a = s := by
  refine s4 ?_ ?_ ?_ ?_
  · intro h q z
    unfold ot
    rw [if_pos ⟨q, z⟩]
  · intro h q z
    unfold ot
    rw [if_neg (h 0 (by decide)), if_pos ⟨q, z⟩]
  · intro h q z
    unfold ot
    rw [if_neg (h 0 (by decide)), if_neg (h 1 (by decide)), if_pos ⟨q, z⟩]
  · intro h q z
    unfold ot
    rw [if_neg (h 0 (by decide)), if_neg (h 1 (by decide)), if_neg (h 2 (by decide)), if_pos ⟨q, z⟩]
/-- the outer edge by which one leaves -/
def oe (n r c s : Nat) : Nat := if s = 0 then c else if s = 1 then n + r else if s = 2 then 3 * n - 1 - c else 4 * n - 1 - r
def dr (s : Nat) : Int := if s = 2 then 1 else if s = 0 then -1 else 0
def dc (s : Nat) : Int := if s = 1 then 1 else if s = 3 then -1 else 0
theorem nb_isp {n r c : Nat} (h5 : n ≤ 5) (hr : r < n) (hc : c < n) : ∀ s, s < 4 → (nb n r c s = none ∧ ¬ isp n (iz_n ((r : Int) + dr s)) (iz_n ((c : Int) + dc s))) ∨ (∃ r' c', nb n r c s = some (r', c') ∧ r' < n ∧ c' < n ∧ iz_n ((r : Int) + dr s) = nI r' ∧ iz_n ((c : Int) + dc s) = nI c') := by
  intro s hs
  have e : isp n (iz_n ((r : Int) + dr s)) (iz_n ((c : Int) + dc s)) ↔ _ := isp_iz h5 (a := (r : Int) + dr s) (b := (c : Int) + dc s) (by unfold dr; split <;> (try split) <;> omega) (by unfold dc; split <;> (try split) <;> omega)
  rw [e]
  clear e
  revert s
  refine s4 ?_ ?_ ?_ ?_
  · rw [nb_0, show dr 0 = -1 from rfl, show dc 0 = 0 from rfl]
    by_cases q : r = 0
    · rw [if_pos q]; exact Or.inl ⟨rfl, by omega⟩
    · rw [if_neg q]
      refine Or.inr ⟨r - 1, c, rfl, by omega, hc, ?_, ?_⟩
      · rw [← iz_nat]; exact congrArg iz_n (by omega)
      · rw [← iz_nat]; exact congrArg iz_n (by omega)
  · rw [nb_1, show dr 1 = 0 from rfl, show dc 1 = 1 from rfl]
    by_cases q : c + 1 < n
    · rw [if_pos q]
      refine Or.inr ⟨r, c + 1, rfl, hr, q, ?_, ?_⟩
      · rw [← iz_nat]; exact congrArg iz_n (by omega)
      · rw [← iz_nat]; exact congrArg iz_n (by omega)
    · rw [if_neg q]; exact Or.inl ⟨rfl, by omega⟩
  · rw [nb_2, show dr 2 = 1 from rfl, show dc 2 = 0 from rfl]
    by_cases q : r + 1 < n
    · rw [if_pos q]
      refine Or.inr ⟨r + 1, c, rfl, q, hc, ?_, ?_⟩
      · rw [← iz_nat]; exact congrArg iz_n (by omega)
      · rw [← iz_nat]; exact congrArg iz_n (by omega)
    · rw [if_neg q]; exact Or.inl ⟨rfl, by omega⟩
  · rw [nb_3, show dr 3 = 0 from rfl, show dc 3 = -1 from rfl]
    by_cases q : c = 0
    · rw [if_pos q]; exact Or.inl ⟨rfl, by omega⟩
    · rw [if_neg q]
      refine Or.inr ⟨r, c - 1, rfl, hr, by omega, ?_, ?_⟩
      · rw [← iz_nat]; exact congrArg iz_n (by omega)
      · rw [← iz_nat]; exact congrArg iz_n (by omega)
theorem op4_I : ∀ s, s < 4 → (nI s + 2) - (nI s + 2) / 4 * 4 = nI (op4 s) := by decide +kernel
theorem b1_1 : vp_nar .boolean 1 = 1 := rfl
theorem b0_0 : vp_nar .boolean 0 = 0 := rfl
theorem dr_I (r s : Nat) : iz_n ((r : Int) + dr s) = nI r + iz_n (dr s) := by rw [← iz_nat, iz_add]
theorem dc_I (c s : Nat) : iz_n ((c : Int) + dc s) = nI c + iz_n (dc s) := by rw [← iz_nat, iz_add]
theorem oe_0 (n : Nat) {r c : Nat} (hr : r < n) (hc : c < n) (h5 : n ≤ 5) : 3 * nI n - 1 - nI c = nI (3 * n - 1 - c) ∧ 4 * nI n - 1 - nI r = nI (4 * n - 1 - r) ∧ 2 * nI n + nI n - 1 - nI c = nI (3 * n - 1 - c) ∧ 3 * nI n + nI n - 1 - nI r = nI (4 * n - 1 - r) := by
  rw [show (3 : Int32) = nI 3 from rfl, show (4 : Int32) = nI 4 from rfl, show (2 : Int32) = nI 2 from rfl, show (1 : Int32) = nI 1 from rfl, pk_mul, pk_mul, pk_mul, nI_add, nI_add, pk_sub (by omega), pk_sub (by omega), pk_sub (by omega), pk_sub (by omega), pk_sub (by omega), pk_sub (by omega), pk_sub (by omega), pk_sub (by omega)]
  refine ⟨rfl, rfl, congrArg nI (by omega), congrArg nI (by omega)⟩
section
variable {n : Nat} {fk ar ac cb : Int32} {al hd be ab bw wk fl fa co se : Nat → Int32}
theorem x_ot2 {post : Int32 → Prop} {M : Nat → Nat → Int} {r c a : Nat} (h5 : n ≤ 5) (hr : r < n) (hc : c < n) (A : Asm n M) (hS : SU n M n 0 fl fa) (hcb : ∀ s, s < 4 → (nI s = cb ↔ s = a))
    (H : post (nI (ot (onf M r c) a))) : ∀ (k s : Nat), s + k = 4 → (∀ j, j < s → ¬ (j ≠ a ∧ onf M r c j = true)) → wX_otherSide_2 post (nI n) (nI (tb_R n)) fk (nI r) (nI c) cb (tP n) (tM n) al hd be ab bw wk fl fa co se (k + 1) (nI s)
  | 0, s, h, hj => by
    exfalso
    have o := ot_f ((on_FP A).1 r c hr hc) a
    exact hj _ (by omega) ⟨o.2.2, o.2.1⟩
  | k + 1, s, h, hj => by
    refine pk_le 4 s (fun z => absurd z (by omega)) (fun hs => ?_)
    have nx : ¬ (s ≠ a ∧ onf M r c s = true) → wX_otherSide_2 post (nI n) (nI (tb_R n)) fk (nI r) (nI c) cb (tP n) (tM n) al hd be ab bw wk fl fa co se (k + 1) (nI (s + 1)) := fun z => x_ot2 h5 hr hc A hS hcb H k (s + 1) (by omega) (fun j hj' => by
      by_cases q : j = s
      · subst q; exact z
      · exact hj j (by omega))
    refine bq_if (hcb s hs) (fun q => br_t rfl (nm_r (nI_1 s) (nx (fun z => z.1 q)))) (fun q => x_on h5 hr hc A hS s hs (fun w => br_f (by decide) (br_f (by decide) ?_)) (fun w => br_t rfl (br_t rfl (nm_r (nI_1 s) (nx (fun z => by rw [w] at z; exact absurd z.2 (by decide)))))))
    rw [ot_1st s hs hj q w] at H
    exact H
theorem x_ot {post : Int32 → Prop} {M : Nat → Nat → Int} {r c a : Nat} (h5 : n ≤ 5) (hr : r < n) (hc : c < n) (A : Asm n M) (hS : SU n M n 0 fl fa) (hcb : ∀ s, s < 4 → (nI s = cb ↔ s = a))
    (H : post (nI (ot (onf M r c) a))) : wpX_otherSide post ((nI n), (nI (tb_R n)), fk, (nI r), (nI c), cb, (tP n), (tM n), al, hd, be, ab, bw, wk, fl, fa, co, se) :=
  Exists.intro 5 (x_ot2 h5 hr hc A hS hcb H 4 0 (by omega) (fun j hj => absurd hj (by omega)))
theorem x_oe {post : Int32 → Prop} {r c : Nat} (h5 : n ≤ 5) (hr : r < n) (hc : c < n) : ∀ s, s < 4 → post (nI (oe n r c s)) → wpX_outerEdge post ((nI n), (nI (tb_R n)), fk, (nI r), (nI c), cb, (tP n), (tM n), al, hd, be, ab, bw, wk, fl, fa, co, se) (nI s) := by
  have e := oe_0 n hr hc h5
  refine s4 ?_ ?_ ?_ ?_
  · intro H
    exact br_t rfl H
  · intro H
    refine br_f (by decide) (br_t rfl ?_)
    rw [nI_add]; exact H
  · intro H
    refine br_f (by decide) (br_f (by decide) (br_t rfl ?_))
    rw [e.1]; exact H
  · intro H
    refine br_f (by decide) (br_f (by decide) (br_f (by decide) ?_))
    rw [e.2.1]; exact H
theorem x_s52 {post : Int32 → SX → Prop} {r c s : Nat} (h5 : n ≤ 5) (hr : r < n) (hc : c < n) (hs : s < 4)
    (H0 : nb n r c s = none → post (nI (oe n r c s)) ((nI n), (nI (tb_R n)), fk, (nI r), (nI c), cb, (tP n), (tM n), al, hd, be, ab, bw, wk, fl, fa, co, (upd se (5 * r + c) 1)))
    (H1 : ∀ r' c', nb n r c s = some (r', c') → post (-1) ((nI n), (nI (tb_R n)), fk, (nI r'), (nI c'), (nI (op4 s)), (tP n), (tM n), al, hd, be, ab, bw, wk, fl, fa, co, (upd se (5 * r + c) 1))) :
    wX_step_52 post (nI s) (iz_n ((r : Int) + dr s)) (iz_n (dc s)) (nI c) (nI n) (nI (tb_R n)) fk (nI r) (nI c) cb (tP n) (tM n) al hd be ab bw wk fl fa co se := by
  refine nm_r (dc_I c s).symm (x_pl ⟨bq_in (by omega) (by omega), ?_⟩)
  rw [bq_cl (by omega), b1_1]
  refine nm_e ?_
  rcases nb_isp h5 hr hc s hs with ⟨a, b⟩ | ⟨r', c', a, b1, b2, b3, b4⟩
  · exact x_isP h5 (fun z => absurd z b) (fun _ => br_t rfl (x_oe h5 hr hc s hs (H0 a)))
  · rw [b3, b4]
    exact x_isP h5 (fun _ => br_f (by decide) ⟨by decide, nm_r (op4_I s hs) (H1 r' c' a)⟩) (fun z => absurd ⟨r', c', b1, b2, rfl, rfl⟩ z)
theorem x_s27 {post : Int32 → SX → Prop} {r c : Nat} (h5 : n ≤ 5) (hr : r < n) (hc : c < n) : ∀ s, s < 4 →
    (nb n r c s = none → post (nI (oe n r c s)) ((nI n), (nI (tb_R n)), fk, (nI r), (nI c), cb, (tP n), (tM n), al, hd, be, ab, bw, wk, fl, fa, co, (upd se (5 * r + c) 1))) →
    (∀ r' c', nb n r c s = some (r', c') → post (-1) ((nI n), (nI (tb_R n)), fk, (nI r'), (nI c'), (nI (op4 s)), (tP n), (tM n), al, hd, be, ab, bw, wk, fl, fa, co, (upd se (5 * r + c) 1))) →
    wX_step_27 post (nI s) (iz_n (dr s)) (nI r) (nI n) (nI (tb_R n)) fk (nI r) (nI c) cb (tP n) (tM n) al hd be ab bw wk fl fa co se := by
  refine s4 ?_ ?_ ?_ ?_
  · intro H0 H1
    exact nm_r (dr_I r 0).symm (br_f (by decide) (br_f (by decide) (x_s52 h5 hr hc (by decide) H0 H1)))
  · intro H0 H1
    exact nm_r (dr_I r 1).symm (br_t rfl (x_s52 h5 hr hc (by decide) H0 H1))
  · intro H0 H1
    exact nm_r (dr_I r 2).symm (br_f (by decide) (br_f (by decide) (x_s52 h5 hr hc (by decide) H0 H1)))
  · intro H0 H1
    exact nm_r (dr_I r 3).symm (br_f (by decide) (br_t rfl (x_s52 h5 hr hc (by decide) H0 H1)))
theorem x_step {post : Int32 → SX → Prop} {M : Nat → Nat → Int} {r c a : Nat} (h5 : n ≤ 5) (hr : r < n) (hc : c < n) (A : Asm n M) (hS : SU n M n 0 fl fa) (hcb : ∀ s, s < 4 → (nI s = cb ↔ s = a))
    (H0 : nb n r c (ot (onf M r c) a) = none → post (nI (oe n r c (ot (onf M r c) a))) ((nI n), (nI (tb_R n)), fk, (nI r), (nI c), cb, (tP n), (tM n), al, hd, be, ab, bw, wk, fl, fa, co, (upd se (5 * r + c) 1)))
    (H1 : ∀ r' c', nb n r c (ot (onf M r c) a) = some (r', c') → post (-1) ((nI n), (nI (tb_R n)), fk, (nI r'), (nI c'), (nI (op4 (ot (onf M r c) a))), (tP n), (tM n), al, hd, be, ab, bw, wk, fl, fa, co, (upd se (5 * r + c) 1))) :
    wpX_step post ((nI n), (nI (tb_R n)), fk, (nI r), (nI c), cb, (tP n), (tM n), al, hd, be, ab, bw, wk, fl, fa, co, se) := by
  unfold wpX_step
  dsimp only
  have o := ot_f ((on_FP A).1 r c hr hc) a
  refine x_ot h5 hr hc A hS hcb ?_
  have key := x_s27 (post := post) (fk := fk) (cb := cb) (al := al) (hd := hd) (be := be) (ab := ab) (bw := bw) (wk := wk) (fl := fl) (fa := fa) (co := co) (se := se) h5 hr hc _ o.1 H0 H1
  revert key
  generalize ot (onf M r c) a = s at *
  have hs := o.1
  clear o H0 H1
  revert s
  refine s4 ?_ ?_ ?_ ?_
  · intro key
    exact br_f (by decide) (br_t rfl key)
  · intro key
    exact br_f (by decide) (br_f (by decide) key)
  · intro key
    exact br_t rfl key
  · intro key
    exact br_f (by decide) (br_f (by decide) key)
end
end
section
/-! both follow the same trace -/
/-- what is marked after i steps -/
def Mk (n : Nat) (f : Nat → Nat → Nat → Bool) (x : Pos) (i : Nat) (se S : Nat → Int32) : Prop := ∀ p, (S p = 0 ↔ se p = 0 ∧ ∀ j, j < i → p ≠ pv (tr n f x j))
theorem Mk_0 {n : Nat} {f : Nat → Nat → Nat → Bool} {x : Pos} {se : Nat → Int32} : Mk n f x 0 se se := fun p => ⟨fun h => ⟨h, fun j hj => absurd hj (by omega)⟩, fun h => h.1⟩
theorem Mk_s {n : Nat} {f : Nat → Nat → Nat → Bool} {x : Pos} {i : Nat} {se S : Nat → Int32} (h : Mk n f x i se S) : Mk n f x (i + 1) se (upd S (pv (tr n f x i)) 1) := by
  intro p
  by_cases c : p = pv (tr n f x i)
  · rw [c, pk_us]
    exact ⟨fun z => absurd z (by decide), fun z => absurd rfl (z.2 i (by omega))⟩
  · rw [pk_un c, h p]
    refine ⟨fun z => ⟨z.1, fun j hj => ?_⟩, fun z => ⟨z.1, fun j hj => z.2 j (by omega)⟩⟩
    by_cases e : j = i
    · subst e; exact c
    · exact z.2 j (by omega)
theorem Mk_Ps {n : Nat} {f : Nat → Nat → Nat → Bool} {x : Pos} {m : Nat} {se S : Nat → Int32} (h : Mk n f x (m + 1) se S) : ∀ p, (S p = 0 ↔ se p = 0 ∧ ¬ Ps n f x m p) := by
  intro p
  rw [h p]
  refine ⟨fun z => ⟨z.1, ?_⟩, fun z => ⟨z.1, fun j hj e => z.2 ⟨j, by omega, e⟩⟩⟩
  rintro ⟨j, hj, e⟩
  exact z.2 j (by omega) e
def oeT (n : Nat) (f : Nat → Nat → Nat → Bool) (y : Pos) : Nat := oe n y.1 y.2.1 (exi f y)
theorem oe_lt {n : Nat} (h5 : n ≤ 5) {r c : Nat} (hr : r < n) (hc : c < n) (s : Nat) : oe n r c s < 100 := by
  unfold oe
  split
  · omega
  · split
    · omega
    · split <;> omega
theorem tr_pair {n : Nat} {f : Nat → Nat → Nat → Bool} {y : Pos} {r' c' : Nat} (h : nxo n f y = some (r', c')) : (nxt n f y).1 = r' ∧ (nxt n f y).2.1 = c' := by
  unfold nxt
  rw [h]
  exact ⟨rfl, rfl⟩
theorem cb_ok {a : Nat} (ha : a < 4) : ∀ s, s < 4 → (nI s = nI a ↔ s = a) := fun s hs => nI_eq (by omega) (by omega)
theorem cb_m1 : ∀ s, s < 4 → (nI s = -1 ↔ s = 4) := by decide +kernel
section
variable {n : Nat} {fk ar ac cb : Int32} {al hd be ab bw wk fl fa co se : Nat → Int32}
theorem x_f9 {post : Int32 → SX → Prop} {M : Nat → Nat → Int} {x : Pos} {m : Nat} (h5 : n ≤ 5) (A : Asm n M) (hS : SU n M n 0 fl fa) (hx : Gd n (onf M) x) (hm : m < 25)
    (t1 : ∀ i, i < m → nxo n (onf M) (tr n (onf M) x i) ≠ none) (t2 : nxo n (onf M) (tr n (onf M) x m) = none)
    (H : ∀ (ar' ac' cb' : Int32) (S : Nat → Int32), (∀ p, (S p = 0 ↔ se p = 0 ∧ ¬ Ps n (onf M) x m p)) → post (nI (oeT n (onf M) (tr n (onf M) x m))) ((nI n), (nI (tb_R n)), fk, ar', ac', cb', (tP n), (tM n), al, hd, be, ab, bw, wk, fl, fa, co, S)) :
    ∀ (k i : Nat) (S : Nat → Int32), i + k = m → Mk n (onf M) x i se S → wX_follow_9 post (k + 2) (-1) (nI i) (nI n) (nI (tb_R n)) fk (nI (tr n (onf M) x i).1) (nI (tr n (onf M) x i).2.1) (nI (tr n (onf M) x i).2.2) (tP n) (tM n) al hd be ab bw wk fl fa co S
  | 0, i, S, h, hM => by
    have e : i = m := by omega
    subst e
    have g := tr_g (on_FP A) hx i t1
    refine pk_le 25 i (fun z => absurd z (by omega)) (fun _ => br_f (by decide) (x_step h5 g.1 g.2.1 A hS (cb_ok g.2.2.1) (fun z => ?_) (fun r' c' z => ?_)))
    · have K := H (nI (tr n (onf M) x i).1) (nI (tr n (onf M) x i).2.1) (nI (tr n (onf M) x i).2.2) _ (Mk_Ps (Mk_s hM))
      have ol := oe_lt h5 g.1 g.2.1 (exi (onf M) (tr n (onf M) x i))
      refine nm_r (nI_1 i) (pk_le 25 (i + 1) (fun _ => K) (fun _ => br_t (nI_pos' ?_) K))
      exact Nat.lt_trans ol (by decide)
    · have z' : nxo n (onf M) (tr n (onf M) x i) = some (r', c') := z
      rw [t2] at z'; cases z'
  | k + 1, i, S, h, hM => by
    have g := tr_g (on_FP A) hx i (fun j hj => t1 j (by omega))
    refine pk_le 25 i (fun z => absurd z (by omega)) (fun _ => br_f (by decide) (x_step h5 g.1 g.2.1 A hS (cb_ok g.2.2.1) (fun z => absurd z (t1 i (by omega))) (fun r' c' z => ?_)))
    have IH := x_f9 h5 A hS hx hm t1 t2 H k (i + 1) _ (by omega) (Mk_s hM)
    have q := tr_pair (n := n) (f := onf M) (y := tr n (onf M) x i) z
    rw [← q.1, ← q.2]
    exact nm_r (nI_1 i) IH
theorem x_g21 {post : SX → Prop} {M : Nat → Nat → Int} {x : Pos} {m : Nat} (h5 : n ≤ 5) (A : Asm n M) (hS : SU n M n 0 fl fa) (hx : Gd n (onf M) x) (hm : m < 25)
    (t1 : ∀ i, i < m + 1 → nxo n (onf M) (tr n (onf M) x i) ≠ none) (t2 : ∀ i, i < m → pv (tr n (onf M) x (i + 1)) ≠ pv x) (t3 : pv (tr n (onf M) x (m + 1)) = pv x)
    (h0 : ∀ i, i ≤ m → se (pv (tr n (onf M) x i)) = 0)
    (H : ∀ (ar' ac' cb' : Int32) (S : Nat → Int32), (∀ p, (S p = 0 ↔ se p = 0 ∧ ¬ Ps n (onf M) x m p)) → post ((nI n), (nI (tb_R n)), fk, ar', ac', cb', (tP n), (tM n), al, hd, be, ab, bw, wk, fl, fa, co, S)) :
    ∀ (k i : Nat) (S : Nat → Int32) (cb' : Int32), i + k = m + 1 → Mk n (onf M) x i se S → (∃ a, ot (onf M (tr n (onf M) x i).1 (tr n (onf M) x i).2.1) a = exi (onf M) (tr n (onf M) x i) ∧ ∀ s, s < 4 → (nI s = cb' ↔ s = a)) → wX_goRound_21 post (k + 1) (nI i) (nI n) (nI (tb_R n)) fk (nI (tr n (onf M) x i).1) (nI (tr n (onf M) x i).2.1) cb' (tP n) (tM n) al hd be ab bw wk fl fa co S
  | 0, i, S, cb', h, hM, hcb => by
    have e : i = m + 1 := by omega
    subst e
    have K := H (nI (tr n (onf M) x (m + 1)).1) (nI (tr n (onf M) x (m + 1)).2.1) cb' S (Mk_Ps hM)
    refine pk_le 25 (m + 1) (fun _ => K) (fun _ => x_pl ?_)
    have g := tr_g (on_FP A) hx (m + 1) t1
    have pl := pv_lt h5 g
    have e1 : 5 * (tr n (onf M) x (m + 1)).1 + (tr n (onf M) x (m + 1)).2.1 = pv x := t3
    have gx := pv_lt h5 hx
    rw [e1, bq_cl (by omega)]
    refine ⟨bq_in (by omega) (by omega), br_f (fun z => ?_) K⟩
    exact ((hM (pv x)).mp z).2 0 (by omega) rfl
  | k + 1, i, S, cb', h, hM, hcb => by
    have g := tr_g (on_FP A) hx i (fun j hj => t1 j (by omega))
    have dis := tr_dis h5 (on_FP A) hx m (fun j hj => t1 j (by omega)) t2
    have pl := pv_lt h5 g
    refine pk_le 25 i (fun z => absurd z (by omega)) (fun _ => x_pl ?_)
    have e1 : 5 * (tr n (onf M) x i).1 + (tr n (onf M) x i).2.1 = pv (tr n (onf M) x i) := rfl
    have un : S (pv (tr n (onf M) x i)) = 0 := (hM _).mpr ⟨h0 i (by omega), fun j hj z => by
      have := dis i j (by omega) (by omega) z
      omega⟩
    rw [e1, bq_cl (by omega)]
    obtain ⟨a, ea, ha⟩ := hcb
    refine ⟨bq_in (by omega) (by omega), br_t un (x_step h5 g.1 g.2.1 A hS ha (fun z => ?_) (fun r' c' z => ?_))⟩
    · rw [ea] at z
      exact absurd z (t1 i (by omega))
    · rw [ea] at z
      rw [ea]
      have q := tr_pair (n := n) (f := onf M) (y := tr n (onf M) x i) z
      have g1 := tr_g (on_FP A) hx (i + 1) (fun j hj => t1 j (by omega))
      have IH := x_g21 h5 A hS hx hm t1 t2 t3 h0 H k (i + 1) _ (nI (op4 (exi (onf M) (tr n (onf M) x i)))) (by omega) (Mk_s hM) ⟨(tr n (onf M) x (i + 1)).2.2, rfl, cb_ok g1.2.2.1⟩
      rw [← q.1, ← q.2]
      exact nm_r (nI_1 i) IH
end
section
variable {n : Nat} {dp : Int32} {al yh ys yf yo yp : Nat → Int32}
theorem y_ot3 {post : Int32 → Prop} {M : Nat → Nat → Int} {r c a : Nat} {cb : Int32} (h5 : n ≤ 5) (hr : r < n) (hc : c < n) (A : Asm n M) (hF : ∀ r, r < n → ∀ c, c < n → yf (5 * r + c) = iz_n (M r c)) (hcb : ∀ s, s < 4 → (nI s = cb ↔ s = a))
    (H : post (nI (ot (onf M r c) a))) : ∀ (k s : Nat), s + k = 4 → (∀ j, j < s → ¬ (j ≠ a ∧ onf M r c j = true)) → wY_otherSide_3 post (nI r) (nI c) cb (nI n) dp al yh ys yf yo yp (k + 1) (nI s)
  | 0, s, h, hj => by
    exfalso
    have o := ot_f ((on_FP A).1 r c hr hc) a
    exact hj _ (by omega) ⟨o.2.2, o.2.1⟩
  | k + 1, s, h, hj => by
    refine pk_le 4 s (fun z => absurd z (by omega)) (fun hs => ?_)
    have nx : ¬ (s ≠ a ∧ onf M r c s = true) → wY_otherSide_3 post (nI r) (nI c) cb (nI n) dp al yh ys yf yo yp (k + 1) (nI (s + 1)) := fun z => y_ot3 h5 hr hc A hF hcb H k (s + 1) (by omega) (fun j hj' => by
      by_cases q : j = s
      · subst q; exact z
      · exact hj j (by omega))
    refine bq_if (hcb s hs) (fun q => nm_r (nI_1 s) (nx (fun z => z.1 q))) (fun q => y_on h5 hr hc A hF hs (fun w => br_f (by decide) ?_) (fun w => br_t rfl (nm_r (nI_1 s) (nx (fun z => by rw [w] at z; exact absurd z.2 (by decide))))))
    rw [ot_1st s hs hj q w] at H
    exact H
theorem y_ot {post : Int32 → Prop} {M : Nat → Nat → Int} {r c a : Nat} {cb : Int32} (h5 : n ≤ 5) (hr : r < n) (hc : c < n) (A : Asm n M) (hF : ∀ r, r < n → ∀ c, c < n → yf (5 * r + c) = iz_n (M r c)) (hcb : ∀ s, s < 4 → (nI s = cb ↔ s = a))
    (H : post (nI (ot (onf M r c) a))) : wpY_otherSide post ((nI n), dp, al, yh, ys, yf, yo, yp) (nI r) (nI c) cb :=
  Exists.intro 5 (y_ot3 h5 hr hc A hF hcb H 4 0 (by omega) (fun j hj => absurd hj (by omega)))
theorem y_oe {post : Int32 → Prop} {r c : Nat} (h5 : n ≤ 5) (hr : r < n) (hc : c < n) : ∀ s, s < 4 → post (nI (oe n r c s)) → wpY_outerEdge post ((nI n), dp, al, yh, ys, yf, yo, yp) (nI r) (nI c) (nI s) := by
  have e := oe_0 n hr hc h5
  refine s4 ?_ ?_ ?_ ?_
  · intro H
    exact br_t rfl H
  · intro H
    refine br_f (by decide) (br_t rfl ?_)
    rw [nI_add]; exact H
  · intro H
    refine br_f (by decide) (br_f (by decide) (br_t rfl ?_))
    rw [e.2.2.1]; exact H
  · intro H
    refine br_f (by decide) (br_f (by decide) (br_f (by decide) ?_))
    rw [e.2.2.2]; exact H
theorem y_s92 {post : Int32 → SY → Prop} {J : Int32 → Int32 → Int32 → Int32 → (Nat → Int32) → (Nat → Int32) → (Nat → Int32) → (Nat → Int32) → (Nat → Int32) → (Nat → Int32) → Prop} {r c s st i : Nat} (h5 : n ≤ 5) (hr : r < n) (hc : c < n) (hs : s < 4) (hst : st < 25)
    (H0 : nb n r c s = none → post (nI (oe n r c s)) ((nI n), dp, al, yh, ys, yf, yo, yp))
    (H1 : ∀ r' c', nb n r c s = some (r', c') → (5 * r' + c' = st → post (-1) ((nI n), dp, al, yh, ys, yf, yo, yp)) ∧ (5 * r' + c' ≠ st → J (nI r') (nI c') (nI (op4 s)) (nI (i + 1)) al yh ys yf yo yp)) :
    wY_follow_92 post J (nI st) (nI r) (nI c) (nI i) (nI s) (iz_n ((r : Int) + dr s)) (iz_n (dc s)) (nI c) (nI n) dp al yh ys yf yo yp := by
  refine nm_r (dc_I c s).symm ?_
  rcases nb_isp h5 hr hc s hs with ⟨a, b⟩ | ⟨r', c', a, b1, b2, b3, b4⟩
  · exact y_isP h5 (fun z => absurd z b) (fun _ => br_t rfl (y_oe h5 hr hc s hs (H0 a)))
  · rw [b3, b4]
    refine y_isP h5 (fun _ => br_f (by decide) ⟨by decide, nm_r (op4_I s hs) ?_⟩) (fun z => absurd ⟨r', c', b1, b2, rfl, rfl⟩ z)
    rw [bq_pl]
    exact pk_eq (5 * r' + c') st (fun q => (H1 r' c' a).1 q) (fun q => nm_r (nI_1 i) ((H1 r' c' a).2 q))
theorem y_s66 {post : Int32 → SY → Prop} {J : Int32 → Int32 → Int32 → Int32 → (Nat → Int32) → (Nat → Int32) → (Nat → Int32) → (Nat → Int32) → (Nat → Int32) → (Nat → Int32) → Prop} {r c st i : Nat} (h5 : n ≤ 5) (hr : r < n) (hc : c < n) (hst : st < 25) : ∀ s, s < 4 →
    (nb n r c s = none → post (nI (oe n r c s)) ((nI n), dp, al, yh, ys, yf, yo, yp)) →
    (∀ r' c', nb n r c s = some (r', c') → (5 * r' + c' = st → post (-1) ((nI n), dp, al, yh, ys, yf, yo, yp)) ∧ (5 * r' + c' ≠ st → J (nI r') (nI c') (nI (op4 s)) (nI (i + 1)) al yh ys yf yo yp)) →
    wY_follow_66 post J (nI st) (nI r) (nI c) (nI i) (nI s) (iz_n (dr s)) (nI r) (nI n) dp al yh ys yf yo yp := by
  refine s4 ?_ ?_ ?_ ?_
  · intro H0 H1
    exact nm_r (dr_I r 0).symm (br_f (by decide) (br_f (by decide) (y_s92 h5 hr hc (by decide) hst H0 H1)))
  · intro H0 H1
    exact nm_r (dr_I r 1).symm (br_t rfl (y_s92 h5 hr hc (by decide) hst H0 H1))
  · intro H0 H1
    exact nm_r (dr_I r 2).symm (br_f (by decide) (br_f (by decide) (y_s92 h5 hr hc (by decide) hst H0 H1)))
  · intro H0 H1
    exact nm_r (dr_I r 3).symm (br_f (by decide) (br_t rfl (y_s92 h5 hr hc (by decide) hst H0 H1)))
theorem y_f15 {post : Int32 → SY → Prop} {M : Nat → Nat → Int} {r c a st i k : Nat} (h5 : n ≤ 5) (hr : r < n) (hc : c < n) (ha : a < 4) (A : Asm n M) (hF : ∀ r, r < n → ∀ c, c < n → yf (5 * r + c) = iz_n (M r c)) (hst : st < 25) (hi : i < 30)
    (H0 : nb n r c (ot (onf M r c) a) = none → post (nI (oe n r c (ot (onf M r c) a))) ((nI n), dp, al, yh, ys, yf, yo, (upd yp (5 * r + c) 1)))
    (H1 : ∀ r' c', nb n r c (ot (onf M r c) a) = some (r', c') → (5 * r' + c' = st → post (-1) ((nI n), dp, al, yh, ys, yf, yo, (upd yp (5 * r + c) 1))) ∧ (5 * r' + c' ≠ st → wY_follow_15 post (nI st) (nI n) dp k (nI r') (nI c') (nI (op4 (ot (onf M r c) a))) (nI (i + 1)) al yh ys yf yo (upd yp (5 * r + c) 1))) :
    wY_follow_15 post (nI st) (nI n) dp (k + 1) (nI r) (nI c) (nI a) (nI i) al yh ys yf yo yp := by
  refine pk_le 30 i (fun z => absurd z (by omega)) (fun _ => ?_)
  rw [bq_pl, bq_cl (by omega), b1_1]
  refine ⟨bq_in (by omega) (by omega), nm_e ?_⟩
  have o := ot_f ((on_FP A).1 r c hr hc) a
  refine y_ot h5 hr hc A hF (cb_ok ha) ?_
  have key := y_s66 (post := post) (J := wY_follow_15 post (nI st) (nI n) dp k) (i := i) (dp := dp) (al := al) (yh := yh) (ys := ys) (yf := yf) (yo := yo) (yp := upd yp (5 * r + c) 1) h5 hr hc hst _ o.1 H0 H1
  revert key
  generalize ot (onf M r c) a = s at *
  have hs := o.1
  clear o H0 H1
  revert s
  refine s4 ?_ ?_ ?_ ?_
  · intro key
    exact br_t rfl key
  · intro key
    exact br_f (by decide) (br_f (by decide) key)
  · intro key
    exact br_f (by decide) (br_t rfl key)
  · intro key
    exact br_f (by decide) (br_f (by decide) key)
theorem y_fpath {post : Int32 → SY → Prop} {M : Nat → Nat → Int} {x : Pos} {m : Nat} (h5 : n ≤ 5) (A : Asm n M) (hF : ∀ r, r < n → ∀ c, c < n → yf (5 * r + c) = iz_n (M r c)) (hx : Gd n (onf M) x) (hm : m < 25)
    (t1 : ∀ i, i < m → nxo n (onf M) (tr n (onf M) x i) ≠ none) (t2 : ∀ i, i < m → pv (tr n (onf M) x (i + 1)) ≠ pv x) (t3 : nxo n (onf M) (tr n (onf M) x m) = none)
    (H : ∀ S : Nat → Int32, (∀ p, (S p = 0 ↔ yp p = 0 ∧ ¬ Ps n (onf M) x m p)) → post (nI (oeT n (onf M) (tr n (onf M) x m))) ((nI n), dp, al, yh, ys, yf, yo, S)) :
    ∀ (k i : Nat) (S : Nat → Int32), i + k = m → Mk n (onf M) x i yp S → wY_follow_15 post (nI (pv x)) (nI n) dp (k + 1) (nI (tr n (onf M) x i).1) (nI (tr n (onf M) x i).2.1) (nI (tr n (onf M) x i).2.2) (nI i) al yh ys yf yo S
  | 0, i, S, h, hM => by
    have e : i = m := by omega
    subst e
    have g := tr_g (on_FP A) hx i t1
    refine y_f15 (a := (tr n (onf M) x i).2.2) h5 g.1 g.2.1 g.2.2.1 A hF (pv_lt h5 hx) (by omega) (fun z => H _ (Mk_Ps (Mk_s hM))) (fun r' c' z => ?_)
    have z' : nxo n (onf M) (tr n (onf M) x i) = some (r', c') := z
    rw [t3] at z'; cases z'
  | k + 1, i, S, h, hM => by
    have g := tr_g (on_FP A) hx i (fun j hj => t1 j (by omega))
    refine y_f15 (a := (tr n (onf M) x i).2.2) h5 g.1 g.2.1 g.2.2.1 A hF (pv_lt h5 hx) (by omega) (fun z => absurd z (t1 i (by omega))) (fun r' c' z => ?_)
    have IH := y_fpath h5 A hF hx hm t1 t2 t3 H k (i + 1) _ (by omega) (Mk_s hM)
    have q := tr_pair (n := n) (f := onf M) (y := tr n (onf M) x i) z
    rw [← q.1, ← q.2]
    exact ⟨fun e => absurd e (t2 i (by omega)), fun _ => IH⟩
theorem y_fring {post : Int32 → SY → Prop} {M : Nat → Nat → Int} {x : Pos} {m : Nat} (h5 : n ≤ 5) (A : Asm n M) (hF : ∀ r, r < n → ∀ c, c < n → yf (5 * r + c) = iz_n (M r c)) (hx : Gd n (onf M) x) (hm : m < 25)
    (t1 : ∀ i, i < m + 1 → nxo n (onf M) (tr n (onf M) x i) ≠ none) (t2 : ∀ i, i < m → pv (tr n (onf M) x (i + 1)) ≠ pv x) (t3 : pv (tr n (onf M) x (m + 1)) = pv x)
    (H : ∀ S : Nat → Int32, (∀ p, (S p = 0 ↔ yp p = 0 ∧ ¬ Ps n (onf M) x m p)) → post (-1) ((nI n), dp, al, yh, ys, yf, yo, S)) :
    ∀ (k i : Nat) (S : Nat → Int32), i + k = m → Mk n (onf M) x i yp S → wY_follow_15 post (nI (pv x)) (nI n) dp (k + 1) (nI (tr n (onf M) x i).1) (nI (tr n (onf M) x i).2.1) (nI (tr n (onf M) x i).2.2) (nI i) al yh ys yf yo S
  | 0, i, S, h, hM => by
    have e : i = m := by omega
    subst e
    have g := tr_g (on_FP A) hx i (fun j hj => t1 j (by omega))
    refine y_f15 (a := (tr n (onf M) x i).2.2) h5 g.1 g.2.1 g.2.2.1 A hF (pv_lt h5 hx) (by omega) (fun z => absurd z (t1 i (by omega))) (fun r' c' z => ?_)
    have q := tr_pair (n := n) (f := onf M) (y := tr n (onf M) x i) z
    rw [← q.1, ← q.2]
    exact ⟨fun _ => H _ (Mk_Ps (Mk_s hM)), fun e => absurd t3 e⟩
  | k + 1, i, S, h, hM => by
    have g := tr_g (on_FP A) hx i (fun j hj => t1 j (by omega))
    refine y_f15 (a := (tr n (onf M) x i).2.2) h5 g.1 g.2.1 g.2.2.1 A hF (pv_lt h5 hx) (by omega) (fun z => absurd z (t1 i (by omega))) (fun r' c' z => ?_)
    have IH := y_fring h5 A hF hx hm t1 t2 t3 H k (i + 1) _ (by omega) (Mk_s hM)
    have q := tr_pair (n := n) (f := onf M) (y := tr n (onf M) x i) z
    rw [← q.1, ← q.2]
    exact ⟨fun e => absurd e (t2 i (by omega)), fun _ => IH⟩
theorem y_fw {post : Int32 → SY → Prop} {x : Pos} {k : Nat} {a : Int32} (h5 : n ≤ 5) (hr : x.1 < n) (hc : x.2.1 < n)
    (H : wY_follow_15 post (nI (pv x)) (nI n) dp k (nI x.1) (nI x.2.1) a 0 al yh ys yf yo yp) : wpY_follow post ((nI n), dp, al, yh, ys, yf, yo, yp) (nI (pv x)) a := by
  have hp : pv x < 25 := by unfold pv; omega
  have e1 : pv x / 5 = x.1 := by unfold pv; omega
  have e2 : pv x % 5 = x.2.1 := by unfold pv; omega
  refine And.intro (by decide) (nm_r (e' := nI x.1) ?_ ⟨by decide, nm_r (e' := nI x.2.1) ?_ ⟨k, H⟩⟩)
  · rw [d5 (by omega), e1]
  · rw [m5 (by omega), e2]
end
end
section
/-! from the outer edges -/
def ev (n e : Nat) : Pos := (if e / n = 0 then 0 else if e / n = 1 then e % n else if e / n = 2 then n - 1 else n - 1 - e % n, if e / n = 0 then e % n else if e / n = 1 then n - 1 else if e / n = 2 then n - 1 - e % n else 0, e / n)
theorem ev_c {n e : Nat} (h1 : 1 ≤ n) (he : e < 4 * n) : e % n < n ∧ ((e / n = 0 ∧ e = e % n ∧ ev n e = (0, e % n, 0)) ∨ (e / n = 1 ∧ e = n + e % n ∧ ev n e = (e % n, n - 1, 1)) ∨ (e / n = 2 ∧ e = 2 * n + e % n ∧ ev n e = (n - 1, n - 1 - e % n, 2)) ∨ (e / n = 3 ∧ e = 3 * n + e % n ∧ ev n e = (n - 1 - e % n, 0, 3))) := by
  have hm := Nat.mod_lt e (show 0 < n by omega)
  have hd := Nat.div_add_mod' e n
  have h4 : e / n < 4 := Nat.div_lt_of_lt_mul (by rw [Nat.mul_comm]; exact he)
  refine ⟨hm, ?_⟩
  have h : e / n = 0 ∨ e / n = 1 ∨ e / n = 2 ∨ e / n = 3 := by
    generalize e / n = q at h4
    omega
  rcases h with h | h | h | h
  · refine Or.inl ⟨h, ?_, ?_⟩
    · rw [h] at hd; omega
    · unfold ev; rw [h]; rfl
  · refine Or.inr (Or.inl ⟨h, ?_, ?_⟩)
    · rw [h] at hd; omega
    · unfold ev; rw [h]; rfl
  · refine Or.inr (Or.inr (Or.inl ⟨h, ?_, ?_⟩))
    · rw [h] at hd; omega
    · unfold ev; rw [h]; rfl
  · refine Or.inr (Or.inr (Or.inr ⟨h, ?_, ?_⟩))
    · rw [h] at hd; omega
    · unfold ev; rw [h]; rfl
theorem ev_in {n e : Nat} (h1 : 1 ≤ n) (he : e < 4 * n) : (ev n e).1 < n ∧ (ev n e).2.1 < n ∧ (ev n e).2.2 < 4 ∧ nb n (ev n e).1 (ev n e).2.1 (ev n e).2.2 = none := by
  obtain ⟨hm, h | h | h | h⟩ := ev_c h1 he
  · rw [h.2.2]; exact ⟨h1, hm, (by show (0 : Nat) < 4; decide), rfl⟩
  · rw [h.2.2]; exact ⟨hm, by show n - 1 < n; omega, (by show (1 : Nat) < 4; decide), by show nb n (e % n) (n - 1) 1 = none; rw [nb_1, if_neg (by omega)]⟩
  · rw [h.2.2]; exact ⟨by show n - 1 < n; omega, by show n - 1 - e % n < n; omega, (by show (2 : Nat) < 4; decide), by show nb n (n - 1) (n - 1 - e % n) 2 = none; rw [nb_2, if_neg (by omega)]⟩
  · rw [h.2.2]; exact ⟨by show n - 1 - e % n < n; omega, h1, (by show (3 : Nat) < 4; decide), by show nb n (n - 1 - e % n) 0 3 = none; rw [nb_3, if_pos rfl]⟩
theorem ev_eq {n q i : Nat} (hi : i < n) : (q * n + i) / n = q ∧ (q * n + i) % n = i := ⟨mu_div q hi, mu_mod q hi⟩
/-- every side that leads out is an outer edge -/
theorem ev_oe {n r c : Nat} (h1 : 1 ≤ n) (hr : r < n) (hc : c < n) : ∀ s, s < 4 → nb n r c s = none → ∃ e, e < 4 * n ∧ ev n e = (r, c, s) := by
  refine s4 ?_ ?_ ?_ ?_
  · rw [nb_0]
    intro h
    by_cases q : r = 0
    · refine ⟨0 * n + c, by omega, ?_⟩
      have z := ev_eq (q := 0) hc
      unfold ev
      rw [z.1, z.2, q]; rfl
    · rw [if_neg q] at h; cases h
  · rw [nb_1]
    intro h
    by_cases q : c + 1 < n
    · rw [if_pos q] at h; cases h
    · refine ⟨1 * n + r, by omega, ?_⟩
      have z := ev_eq (q := 1) hr
      unfold ev
      rw [z.1, z.2, show c = n - 1 by omega]; rfl
  · rw [nb_2]
    intro h
    by_cases q : r + 1 < n
    · rw [if_pos q] at h; cases h
    · refine ⟨2 * n + (n - 1 - c), by omega, ?_⟩
      have z := ev_eq (n := n) (q := 2) (i := n - 1 - c) (by omega)
      unfold ev
      rw [z.1, z.2, show r = n - 1 by omega, show n - 1 - (n - 1 - c) = c by omega]; rfl
  · rw [nb_3]
    intro h
    by_cases q : c = 0
    · refine ⟨3 * n + (n - 1 - r), by omega, ?_⟩
      have z := ev_eq (n := n) (q := 3) (i := n - 1 - r) (by omega)
      unfold ev
      rw [z.1, z.2, q, show n - 1 - (n - 1 - r) = r by omega]; rfl
    · rw [if_neg q] at h; cases h
theorem dn {n e : Nat} (h1 : 1 ≤ n) (h5 : n ≤ 5) (he : e < 1000) : nI e / nI n = nI (e / n) := pk_div (by omega) (by omega) (by omega)
theorem mn {n e : Nat} (h1 : 1 ≤ n) (h5 : n ≤ 5) (he : e < 1000) : nI e - nI e / nI n * nI n = nI (e % n) := pk_rem (by omega) (by omega) (by omega)
section
variable {n : Nat} {fk ar ac cb : Int32} {al hd be ab bw wk fl fa co se : Nat → Int32}
theorem x_ent {post : SX → Prop} {e : Nat} (h1 : 1 ≤ n) (h5 : n ≤ 5) (he : e < 4 * n) (H : post ((nI n), (nI (tb_R n)), fk, (nI (ev n e).1), (nI (ev n e).2.1), (nI (ev n e).2.2), (tP n), (tM n), al, hd, be, ab, bw, wk, fl, fa, co, se)) : wpX_enter post ((nI n), (nI (tb_R n)), fk, ar, ac, cb, (tP n), (tM n), al, hd, be, ab, bw, wk, fl, fa, co, se) (nI e) := by
  have n0 : ¬ nI n = 0 := nI_ne0 (by omega) (by omega)
  have n1 : nI n - 1 = nI (n - 1) := pk_sub (a := n) (b := 1) h1
  refine And.intro n0 (nm_r (mn h1 h5 (by omega)) ⟨n0, nm_r (dn h1 h5 (by omega)) ?_⟩)
  obtain ⟨hm, h | h | h | h⟩ := ev_c h1 he
  · rw [h.2.2] at H
    rw [h.1]
    exact br_t rfl H
  · rw [h.2.2] at H
    rw [h.1]
    exact br_f (by decide) (br_t rfl (nm_r n1 H))
  · rw [h.2.2] at H
    rw [h.1]
    refine br_f (by decide) (br_f (by decide) (br_t rfl (nm_r n1 (nm_r (e' := nI (n - 1 - e % n)) ?_ H))))
    rw [n1, pk_sub (by omega)]
  · rw [h.2.2] at H
    rw [h.1]
    refine br_f (by decide) (br_f (by decide) (br_f (by decide) (nm_r (e' := nI (n - 1 - e % n)) ?_ H)))
    rw [n1, pk_sub (by omega)]
theorem x_oOn {post : Int32 → SX → Prop} {M : Nat → Nat → Int} {e : Nat} (h1 : 1 ≤ n) (h5 : n ≤ 5) (A : Asm n M) (hS : SU n M n 0 fl fa) (he : e < 4 * n)
    (H1 : onf M (ev n e).1 (ev n e).2.1 (ev n e).2.2 = true → post 1 ((nI n), (nI (tb_R n)), fk, (nI (ev n e).1), (nI (ev n e).2.1), (nI (ev n e).2.2), (tP n), (tM n), al, hd, be, ab, bw, wk, fl, fa, co, se))
    (H0 : onf M (ev n e).1 (ev n e).2.1 (ev n e).2.2 = false → post 0 ((nI n), (nI (tb_R n)), fk, (nI (ev n e).1), (nI (ev n e).2.1), (nI (ev n e).2.2), (tP n), (tM n), al, hd, be, ab, bw, wk, fl, fa, co, se)) : wpX_isOuterOn post ((nI n), (nI (tb_R n)), fk, ar, ac, cb, (tP n), (tM n), al, hd, be, ab, bw, wk, fl, fa, co, se) (nI e) := by
  unfold wpX_isOuterOn
  dsimp only
  have q := ev_in h1 he
  exact x_ent h1 h5 he (x_on h5 q.1 q.2.1 A hS _ q.2.2.1 (fun z => ⟨narrow_b1, H1 z⟩) (fun z => ⟨narrow_b0, H0 z⟩))
end
/-- the way from an outer edge -/
def PT (n : Nat) (M : Nat → Nat → Int) (e m : Nat) : Prop :=
  m < 25 ∧ (∀ i, i < m → nxo n (onf M) (tr n (onf M) (ev n e) i) ≠ none) ∧ (∀ i, i < m → pv (tr n (onf M) (ev n e) (i + 1)) ≠ pv (ev n e)) ∧ nxo n (onf M) (tr n (onf M) (ev n e) m) = none
theorem ev_Gd {n e : Nat} {M : Nat → Nat → Int} (h1 : 1 ≤ n) (he : e < 4 * n) (h : onf M (ev n e).1 (ev n e).2.1 (ev n e).2.2 = true) : Gd n (onf M) (ev n e) := by
  have q := ev_in h1 he
  exact ⟨q.1, q.2.1, q.2.2.1, h⟩
theorem PT_ex {n e : Nat} {M : Nat → Nat → Int} (h1 : 1 ≤ n) (h5 : n ≤ 5) (A : Asm n M) (he : e < 4 * n) (h : onf M (ev n e).1 (ev n e).2.1 (ev n e).2.2 = true) : ∃ m, PT n M e m :=
  tr_out h5 (on_FP A) (ev_Gd h1 he h) (ev_in h1 he).2.2.2
section
variable {n : Nat} {fk ar ac cb : Int32} {al hd be ab bw wk fl fa co se : Nat → Int32}
theorem x_follow {post : Int32 → SX → Prop} {M : Nat → Nat → Int} {e m : Nat} (h1 : 1 ≤ n) (h5 : n ≤ 5) (A : Asm n M) (hS : SU n M n 0 fl fa) (he : e < 4 * n) (h : onf M (ev n e).1 (ev n e).2.1 (ev n e).2.2 = true) (T : PT n M e m)
    (H : ∀ (ar' ac' cb' : Int32) (S : Nat → Int32), (∀ p, (S p = 0 ↔ se p = 0 ∧ ¬ Ps n (onf M) (ev n e) m p)) → post (nI (oeT n (onf M) (tr n (onf M) (ev n e) m))) ((nI n), (nI (tb_R n)), fk, ar', ac', cb', (tP n), (tM n), al, hd, be, ab, bw, wk, fl, fa, co, S)) : wpX_follow post ((nI n), (nI (tb_R n)), fk, ar, ac, cb, (tP n), (tM n), al, hd, be, ab, bw, wk, fl, fa, co, se) (nI e) := by
  unfold wpX_follow
  dsimp only
  exact x_ent h1 h5 he (Exists.intro (m + 2) (x_f9 h5 A hS (ev_Gd h1 he h) T.1 T.2.1 T.2.2.2 H m 0 se (by omega) Mk_0))
end
section
variable {n : Nat} {dp : Int32} {al yh ys yf yo yp : Nat → Int32}
theorem y_oP {post : Int32 → Prop} {e : Nat} (h1 : 1 ≤ n) (h5 : n ≤ 5) (he : e < 4 * n) (H : post (nI (pv (ev n e)))) : wpY_outerPlace post ((nI n), dp, al, yh, ys, yf, yo, yp) (nI e) := by
  have n0 : ¬ nI n = 0 := nI_ne0 (by omega) (by omega)
  have n1 : nI n - 1 = nI (n - 1) := pk_sub (a := n) (b := 1) h1
  have e2 : 2 * nI n = nI (2 * n) := pk_mul 2 n
  have e3 : 3 * nI n = nI (3 * n) := pk_mul 3 n
  refine And.intro n0 (nm_r (mn h1 h5 (by omega)) ?_)
  obtain ⟨hm, h | h | h | h⟩ := ev_c h1 he
  · rw [h.2.2] at H
    refine br_f (nI_ge (by omega) (by omega)) ?_
    have z : pv (0, e % n, 0) = e % n := by show 5 * 0 + e % n = _; omega
    rw [z] at H
    exact H
  · rw [h.2.2] at H
    rw [e2, e3]
    refine br_t (nI_le (by omega) (by omega)) (br_f (nI_ge (by omega) (by omega)) ?_)
    have z : 5 * nI (e % n) + nI n - 1 = nI (pv (e % n, n - 1, 1)) := by
      rw [bq_pl, show (1 : Int32) = nI 1 from rfl, pk_sub (by omega)]
      exact congrArg nI (by show _ = 5 * (e % n) + (n - 1); omega)
    rw [z]
    exact H
  · rw [h.2.2] at H
    rw [e2, e3, n1]
    refine br_t (nI_le (by omega) (by omega)) (br_t (nI_le (by omega) (by omega)) (br_f (nI_ge (by omega) (by omega)) ?_))
    have z : 5 * nI (n - 1) + nI n - 1 - nI (e % n) = nI (pv (n - 1, n - 1 - e % n, 2)) := by
      rw [bq_pl, show (1 : Int32) = nI 1 from rfl, pk_sub (by omega), pk_sub (by omega)]
      exact congrArg nI (by show _ = 5 * (n - 1) + (n - 1 - e % n); omega)
    rw [z]
    exact H
  · rw [h.2.2] at H
    rw [e2, e3, n1]
    refine br_t (nI_le (by omega) (by omega)) (br_t (nI_le (by omega) (by omega)) (br_t (nI_le (by omega) (by omega)) ?_))
    have z : 5 * (nI (n - 1) - nI (e % n)) = nI (pv (n - 1 - e % n, 0, 3)) := by
      rw [show (5 : Int32) = nI 5 from rfl, pk_sub (by omega), pk_mul]
      exact congrArg nI (by show _ = 5 * (n - 1 - e % n) + 0; omega)
    rw [z]
    exact H
theorem pv_ev {n e : Nat} (h1 : 1 ≤ n) (h5 : n ≤ 5) (he : e < 4 * n) : pv (ev n e) < 25 ∧ pv (ev n e) / 5 = (ev n e).1 ∧ pv (ev n e) % 5 = (ev n e).2.1 := by
  have q := ev_in h1 he
  unfold pv
  omega
theorem y_oOn {post : Int32 → Prop} {M : Nat → Nat → Int} {e : Nat} (h1 : 1 ≤ n) (h5 : n ≤ 5) (A : Asm n M) (hF : ∀ r, r < n → ∀ c, c < n → yf (5 * r + c) = iz_n (M r c)) (he : e < 4 * n)
    (H1 : onf M (ev n e).1 (ev n e).2.1 (ev n e).2.2 = true → post 1) (H0 : onf M (ev n e).1 (ev n e).2.1 (ev n e).2.2 = false → post 0) : wpY_isOuterOn post ((nI n), dp, al, yh, ys, yf, yo, yp) (nI e) := by
  unfold wpY_isOuterOn
  dsimp only
  have q := ev_in h1 he
  have p := pv_ev h1 h5 he
  refine y_oP h1 h5 he ⟨by decide, by decide, nI_ne0 (by omega) (by omega), ?_⟩
  rw [m5 (by omega), d5 (by omega), p.2.1, p.2.2, dn h1 h5 (by omega)]
  exact y_on (s := (ev n e).2.2) h5 q.1 q.2.1 A hF q.2.2.1 (fun z => ⟨narrow_b1, H1 z⟩) (fun z => ⟨narrow_b0, H0 z⟩)
theorem y_endOf {post : Int32 → SY → Prop} {M : Nat → Nat → Int} {e m : Nat} (h1 : 1 ≤ n) (h5 : n ≤ 5) (A : Asm n M) (hF : ∀ r, r < n → ∀ c, c < n → yf (5 * r + c) = iz_n (M r c)) (he : e < 4 * n) (h : onf M (ev n e).1 (ev n e).2.1 (ev n e).2.2 = true) (T : PT n M e m)
    (H : ∀ S : Nat → Int32, (∀ p, (S p = 0 ↔ yp p = 0 ∧ ¬ Ps n (onf M) (ev n e) m p)) → post (nI (oeT n (onf M) (tr n (onf M) (ev n e) m))) ((nI n), dp, al, yh, ys, yf, yo, S)) : wpY_endOf post ((nI n), dp, al, yh, ys, yf, yo, yp) (nI e) := by
  unfold wpY_endOf
  dsimp only
  have q := ev_in h1 he
  refine y_oP h1 h5 he ⟨nI_ne0 (by omega) (by omega), ?_⟩
  rw [dn h1 h5 (by omega)]
  exact y_fw (k := m + 1) h5 q.1 q.2.1 (y_fpath h5 A hF (ev_Gd h1 he h) T.1 T.2.1 T.2.2.1 T.2.2.2 H m 0 yp (by omega) Mk_0)
end
theorem i_vc_pathEnd {k : Nat} {u : SX} {v : SY} (I : i_Rel k u v) (hk : k + 4 ≤ 2049) (v1 : Int32) (v2 : Int32) : wpX_pathEnd (fun r u' => wpY_pathEnd (fun r' v' => r' = r ∧ i_Rel (k + 4) u' v') v v1 v2) u v1 v2 := by
  refine rel_e (P := fun u v => wpX_pathEnd (fun r u' => wpY_pathEnd (fun r' v' => r' = r ∧ i_Rel (k + 4) u' v') v v1 v2) u v1 v2) ?_ I
  intro n M fk ar ac cb al hd be ab bw wk fl fa co se dp yh ys yf yo yp h1 h5 hK hM
  unfold wpX_pathEnd wpY_pathEnd
  dsimp only
  have e4 : 4 * nI n = nI (4 * n) := pk_mul 4 n
  refine x_lay h1 h5 hK (fun hn fk' be' ab' bw' hK' => br_t rfl ?_) (fun s hs fk' be' ab' bw' W FL FA hK' hW hS => br_f (by decide) ?_)
  · exact y_find h1 h5 (fun _ d zs => br_t rfl ⟨rfl, rel_i h1 h5 (Or.inr hK') hM⟩) (fun s hs => no_some hn hs)
  have A := kth_asm h1 h5 hs
  by_cases a : v2 < 0
  · exact br_t a (y_find h1 h5 (fun z => no_some z hs) (fun s' hs' d zs F hF => br_f (by decide) (br_t a ⟨rfl, rel_i h1 h5 (Or.inr hK') hM⟩)))
  · obtain ⟨e, he', rfl⟩ := nI_of a
    by_cases b : e < 4 * n
    · have b' : nI e < 4 * nI n := by rw [e4]; exact nI_lt b (by omega)
      have yf_ : ∀ (P : Prop) (post : Int32 → SY → Prop), (∀ (d : Int32) (zs F : Nat → Int32), Sh n s F → post 1 ((nI n), d, al, yh, zs, F, yo, yp)) → wpY_find post ((nI n), dp, al, yh, ys, yf, yo, yp) v1 := fun _ post h => y_find h1 h5 (fun z => no_some z hs) (fun s' hs' d zs F hF => by
        rw [hs] at hs'
        cases hs'
        exact h d zs F hF)
      refine br_f a (br_t b' (x_oOn (M := mt n s) h1 h5 A hS b (fun z => br_f (by decide) ?_) (fun z => br_t rfl ?_)))
      · obtain ⟨m, T⟩ := PT_ex h1 h5 A b z
        refine x_follow (M := mt n s) h1 h5 A hS b z T (fun ar' ac' cb' S _ => ?_)
        refine yf_ True _ (fun d zs F hF => ?_)
        refine br_f (by decide) (br_f a (br_t b' (y_oOn (M := mt n s) h1 h5 A hF b (fun _ => br_f (by decide) (y_endOf (M := mt n s) h1 h5 A hF b z T (fun S' _ => ⟨rfl, rel_i h1 h5 (Or.inr hK') hM⟩))) (fun z' => by rw [z] at z'; cases z'))))
      · refine yf_ True _ (fun d zs F hF => ?_)
        exact br_f (by decide) (br_f a (br_t b' (y_oOn (M := mt n s) h1 h5 A hF b (fun z' => by rw [z] at z'; cases z') (fun _ => br_t rfl ⟨rfl, rel_i h1 h5 (Or.inr hK') hM⟩))))
    · have b' : ¬ nI e < 4 * nI n := by rw [e4]; exact nI_nlt (by omega) he'
      refine br_f a (br_f b' (y_find h1 h5 (fun z => no_some z hs) (fun s' hs' d zs F hF => ?_)))
      exact br_f (by decide) (br_f a (br_f b' ⟨rfl, rel_i h1 h5 (Or.inr hK') hM⟩))
end
section
/-! patterns, in lockstep -/
def PX4 (n : Nat) (M : Nat → Nat → Int) (k e : Nat) (res out : Int32) : Prop := ∀ (fk : Int32) (al hd be ab bw wk fl fa co : Nat → Int32), SU n M n 0 fl fa → ∀ post : Int32 → SX → Prop,
  (∀ (ar ac cb : Int32) (se : Nat → Int32), post out ((nI n), (nI (tb_R n)), fk, ar, ac, cb, (tP n), (tM n), al, hd, be, ab, bw, wk, fl, fa, co, se)) → ∀ (ar ac cb : Int32) (se : Nat → Int32), wX_patternOfWork_4 post (k + 1) res (nI e) (nI n) (nI (tb_R n)) fk ar ac cb (tP n) (tM n) al hd be ab bw wk fl fa co se
def PY4 (n : Nat) (M : Nat → Nat → Int) (k e : Nat) (res out : Int32) : Prop := ∀ (dp : Int32) (al yh ys yf yo : Nat → Int32), (∀ r, r < n → ∀ c, c < n → yf (5 * r + c) = iz_n (M r c)) → ∀ post : Int32 → SY → Prop,
  (∀ yp : Nat → Int32, post out ((nI n), dp, al, yh, ys, yf, yo, yp)) → ∀ yp : Nat → Int32, wY_patternHere_4 post (k + 1) res (nI e) (nI n) dp al yh ys yf yo yp
theorem pat_4 {n : Nat} {M : Nat → Nat → Int} (h1 : 1 ≤ n) (h5 : n ≤ 5) (A : Asm n M) : ∀ (k e : Nat) (res : Int32), e + k = 4 * n → ∃ out : Int32, PX4 n M k e res out ∧ PY4 n M k e res out
  | 0, e, res, h => by
    have e4 : 4 * nI n = nI (4 * n) := pk_mul 4 n
    have q : e = 4 * n := by omega
    subst q
    refine ⟨res, fun fk al hd be ab bw wk fl fa co hS post H ar ac cb se => ?_, fun dp al yh ys yf yo hF post H yp => ?_⟩
    · exact br_t (by rw [e4]; exact nI_le (Nat.le_refl _) (by omega)) (H ar ac cb se)
    · exact br_t (by rw [e4]; exact nI_le (Nat.le_refl _) (by omega)) (H yp)
  | k + 1, e, res, h => by
    have e4 : 4 * nI n = nI (4 * n) := pk_mul 4 n
    have he : e < 4 * n := by omega
    have b' : ¬ 4 * nI n ≤ nI e := by rw [e4]; exact nI_ge he (by omega)
    cases z : onf M (ev n e).1 (ev n e).2.1 (ev n e).2.2 with
    | false =>
      obtain ⟨out, hX, hY⟩ := pat_4 h1 h5 A k (e + 1) res (by omega)
      refine ⟨out, fun fk al hd be ab bw wk fl fa co hS post H ar ac cb se => ?_, fun dp al yh ys yf yo hF post H yp => ?_⟩
      · exact br_f b' (x_oOn h1 h5 A hS he (fun z' => by rw [z] at z'; cases z') (fun _ => br_t rfl (nm_r (nI_1 e) (hX _ _ _ _ _ _ _ _ _ _ hS post H _ _ _ _))))
      · exact br_f b' (y_oOn h1 h5 A hF he (fun z' => by rw [z] at z'; cases z') (fun _ => br_t rfl (nm_r (nI_1 e) (hY _ _ _ _ _ _ hF post H _))))
    | true =>
      obtain ⟨m, T⟩ := PT_ex h1 h5 A he z
      by_cases c : nI (oeT n (onf M) (tr n (onf M) (ev n e) m)) ≤ nI e
      · obtain ⟨out, hX, hY⟩ := pat_4 h1 h5 A k (e + 1) (2 * res + 0) (by omega)
        refine ⟨out, fun fk al hd be ab bw wk fl fa co hS post H ar ac cb se => ?_, fun dp al yh ys yf yo hF post H yp => ?_⟩
        · exact br_f b' (x_oOn h1 h5 A hS he (fun _ => br_f (by decide) (x_follow h1 h5 A hS he z T (fun ar' ac' cb' S _ => br_t c (nm_e (nm_r (nI_1 e) (hX _ _ _ _ _ _ _ _ _ _ hS post H _ _ _ _)))))) (fun z' => by rw [z] at z'; cases z'))
        · exact br_f b' (y_oOn h1 h5 A hF he (fun _ => br_f (by decide) (y_endOf h1 h5 A hF he z T (fun S _ => br_t c (nm_e (nm_r (nI_1 e) (hY _ _ _ _ _ _ hF post H _)))))) (fun z' => by rw [z] at z'; cases z'))
      · obtain ⟨out, hX, hY⟩ := pat_4 h1 h5 A k (e + 1) (2 * res + 1) (by omega)
        refine ⟨out, fun fk al hd be ab bw wk fl fa co hS post H ar ac cb se => ?_, fun dp al yh ys yf yo hF post H yp => ?_⟩
        · exact br_f b' (x_oOn h1 h5 A hS he (fun _ => br_f (by decide) (x_follow h1 h5 A hS he z T (fun ar' ac' cb' S _ => br_f c (nm_e (nm_r (nI_1 e) (hX _ _ _ _ _ _ _ _ _ _ hS post H _ _ _ _)))))) (fun z' => by rw [z] at z'; cases z'))
        · exact br_f b' (y_oOn h1 h5 A hF he (fun _ => br_f (by decide) (y_endOf h1 h5 A hF he z T (fun S _ => br_f c (nm_e (nm_r (nI_1 e) (hY _ _ _ _ _ _ hF post H _)))))) (fun z' => by rw [z] at z'; cases z'))
/-- one pattern for both -/
theorem pat_ex {n : Nat} {M : Nat → Nat → Int} (h1 : 1 ≤ n) (h5 : n ≤ 5) (A : Asm n M) : ∃ out : Int32, PX4 n M (4 * n) 0 0 out ∧ PY4 n M (4 * n) 0 0 out := pat_4 h1 h5 A (4 * n) 0 0 (by omega)
section
variable {n : Nat} {fk ar ac cb : Int32} {al hd be ab bw wk fl fa co se : Nat → Int32} {dp : Int32} {yh ys yf yo yp : Nat → Int32}
theorem x_pat {post : Int32 → SX → Prop} {M : Nat → Nat → Int} {out : Int32} (hP : PX4 n M (4 * n) 0 0 out) (hS : SU n M n 0 fl fa) (H : ∀ (ar ac cb : Int32) (se : Nat → Int32), post out ((nI n), (nI (tb_R n)), fk, ar, ac, cb, (tP n), (tM n), al, hd, be, ab, bw, wk, fl, fa, co, se)) : wpX_patternOfWork post ((nI n), (nI (tb_R n)), fk, ar, ac, cb, (tP n), (tM n), al, hd, be, ab, bw, wk, fl, fa, co, se) :=
  Exists.intro (4 * n + 1) (hP _ _ _ _ _ _ _ _ _ _ hS post H _ _ _ _)
theorem y_pat {post : Int32 → SY → Prop} {M : Nat → Nat → Int} {out : Int32} (hP : PY4 n M (4 * n) 0 0 out) (hF : ∀ r, r < n → ∀ c, c < n → yf (5 * r + c) = iz_n (M r c)) (H : ∀ yp : Nat → Int32, post out ((nI n), dp, al, yh, ys, yf, yo, yp)) : wpY_patternHere post ((nI n), dp, al, yh, ys, yf, yo, yp) :=
  Exists.intro (4 * n + 1) (hP _ _ _ _ _ _ hF post H _)
theorem y_p15 {post : Int32 → SY → Prop} {J : Int32 → Int32 → Int32 → (Nat → Int32) → (Nat → Int32) → (Nat → Int32) → (Nat → Int32) → (Nat → Int32) → (Nat → Int32) → Prop} {x1 x2 : Int32}
    (H : ∀ F : Nat → Int32, (∀ p, p < 25 → F p = ys p) → wpY_patternHere (fun r_21 u => match u with | (b1, b2, b3, b4, b5, b6, b7, b8) => (r_21 = x1 → ∀ x2_31 : Int32, x2_31 = x2 + 1 → J x2_31 b1 b2 b3 b4 b5 b6 b7 b8) ∧ (¬ r_21 = x1 → J x2 b1 b2 b3 b4 b5 b6 b7 b8)) ((nI n), dp, al, yh, ys, F, yo, yp)) :
    ∀ (k p : Nat) (F : Nat → Int32), p + k = 25 → (∀ q, q < p → F q = ys q) → wY_withPattern_15 post J x1 x2 (nI n) dp (k + 1) (nI p) al yh ys F yo yp
  | 0, p, F, h, hF => by
    have e : p = 25 := by omega
    subst e
    exact pk_le 25 25 (fun _ => H F hF) (fun z => absurd z (by omega))
  | k + 1, p, F, h, hF => by
    refine pk_le 25 p (fun z => absurd z (by omega)) (fun hp => ⟨bq_in hp (by omega), bq_in hp (by omega), ?_⟩)
    rw [bq_cl (by omega)]
    refine nm_e (nm_r (nI_1 p) (y_p15 H k (p + 1) _ (by omega) (fun q hq => ?_)))
    by_cases c : q = p
    · subst c; exact pk_us
    · rw [pk_un c]; exact hF q (by omega)
end
def WX8 (n : Nat) (al hd : Nat → Int32) (x1 : Int32) (k j : Nat) (a out : Int32) : Prop := ∀ post : Int32 → SX → Prop,
  (∀ (fk ar ac cb : Int32) (be ab bw wk fl fa co se : Nat → Int32), KN n al be ab bw → post out ((nI n), (nI (tb_R n)), fk, ar, ac, cb, (tP n), (tM n), al, hd, be, ab, bw, wk, fl, fa, co, se)) → ∀ (fk ar ac cb : Int32) (be ab bw wk fl fa co se : Nat → Int32), KN n al be ab bw → wX_withPattern_8 post x1 (k + 1) a (nI j) (nI n) (nI (tb_R n)) fk ar ac cb (tP n) (tM n) al hd be ab bw wk fl fa co se
def WY6 (n : Nat) (al yh : Nat → Int32) (x1 : Int32) (L : List (List Nat)) (a out : Int32) : Prop := ∀ post : Int32 → SY → Prop,
  (∀ (dp : Int32) (ys yf yo yp : Nat → Int32), post out ((nI n), dp, al, yh, ys, yf, yo, yp)) → ∀ (dp : Int32) (ys yf yo yp : Nat → Int32), YS n al L dp ys → wY_withPattern_6 post x1 (L.length + 1) a (nI n) dp al yh ys yf yo yp
theorem wp_l {n : Nat} {al hd yh : Nat → Int32} {x1 : Int32} (h1 : 1 ≤ n) (h5 : n ≤ 5) : ∀ (L : List (List Nat)) (j : Nat) (a : Int32), (sq n (al_row al n) n 0).drop j = L → j ≤ (sq n (al_row al n) n 0).length → ∃ out : Int32, WX8 n al hd x1 L.length j a out ∧ WY6 n al yh x1 L a out
  | [], j, a, hL, hj => by
    have hb := sq_bd5 (A := al_row al n) h5 h5 0
    have hl := List.drop_eq_nil_iff.mp hL
    refine ⟨a, fun post H fk ar ac cb be ab bw wk fl fa co se hK => ?_, fun post H dp ys yf yo yp I => ?_⟩
    · have h0 := hK.1 0 (Nat.zero_le _) 0 (by omega)
      have e : be 0 = nI (sq n (al_row al n) n 0).length := h0
      refine br_t ?_ (H _ _ _ _ _ _ _ _ _ _ _ _ hK)
      rw [e]
      exact nI_le hl (by omega)
    · refine y_adv h1 h5 (fun s hs => by cases hs) I (fun _ d' zs' => br_t rfl (H _ _ _ _ _)) (fun s L' e => by cases e)
  | s :: L, j, a, hL, hj => by
    have hb := sq_bd5 (A := al_row al n) h5 h5 0
    have hjl : j < (sq n (al_row al n) n 0).length := by
      have := congrArg List.length hL
      rw [List.length_drop, List.length_cons] at this
      omega
    have hget : (sq n (al_row al n) n 0)[j]? = some s := by
      have := congrArg (fun l => l[0]?) hL
      simpa using this
    have hmem := List.mem_of_getElem? hget
    have hk : kth n al (nI j) = some s := by
      unfold kth
      rw [if_neg (nI_pos (by omega)), nI_clamp (by omega)]
      exact hget
    have A := sq_asm h1 h5 hmem
    obtain ⟨o, oX, oY⟩ := pat_ex (M := mt n s) h1 h5 A
    have hL' : (sq n (al_row al n) n 0).drop (j + 1) = L := by
      rw [← List.drop_drop, hL]; rfl
    have hO : ∀ t, t ∈ s :: L → OK n t := fun t ht => sq_OK t (List.mem_of_mem_drop (by rw [hL]; exact ht))
    have xs : ∀ (a' out : Int32), (o = x1 → a' = a + 1) → (¬ o = x1 → a' = a) → WX8 n al hd x1 L.length (j + 1) a' out → WX8 n al hd x1 (s :: L).length j a out := by
      intro a' out e1 e2 hW post H fk ar ac cb be ab bw wk fl fa co se hK
      have e : be 0 = nI (sq n (al_row al n) n 0).length := hK.1 0 (Nat.zero_le _) 0 (by omega)
      refine br_f (by rw [e]; exact nI_ge hjl (by omega)) (x_lay h1 h5 (Or.inr hK) (fun z => no_some z hk) (fun s' hs' fk' be' ab' bw' W FL FA hK' _ hS => ?_))
      rw [hk] at hs'
      cases hs'
      refine x_pat oX hS (fun ar' ac' cb' se' => br_c (fun z => nm_r (e1 z).symm (nm_r (nI_1 j) (hW post H _ _ _ _ _ _ _ _ _ _ _ _ hK'))) (fun z => nm_r (e' := a') ?_ (nm_r (nI_1 j) (hW post H _ _ _ _ _ _ _ _ _ _ _ _ hK'))))
      rw [e2 z]; exact Int32.add_zero a
    have ys_ : ∀ (a' out : Int32), (o = x1 → a' = a + 1) → (¬ o = x1 → a' = a) → WY6 n al yh x1 L a' out → WY6 n al yh x1 (s :: L) a out := by
      intro a' out e1 e2 hW post H dp ys yf yo yp I
      refine y_adv h1 h5 hO I (fun z => by cases z) (fun s' L' e d' zs' I' hs => br_f (by decide) (Exists.intro 26 (y_p15 (fun F hF => ?_) 25 0 yf (by omega) (fun q hq => absurd hq (by omega)))))
      cases e
      refine y_pat oY (sh_cp h5 hs hF) (fun yp' => br_c (fun z => nm_r (e1 z).symm (hW post H _ _ _ _ _ I')) (fun z => ?_))
      have := hW post H d' zs' F yo yp' I'
      rw [e2 z] at this
      exact this
    by_cases c : o = x1
    · obtain ⟨out, hX, hY⟩ := wp_l (hd := hd) (yh := yh) (x1 := x1) h1 h5 L (j + 1) (a + 1) hL' hjl
      exact ⟨out, xs (a + 1) out (fun _ => rfl) (fun z => absurd c z) hX, ys_ (a + 1) out (fun _ => rfl) (fun z => absurd c z) hY⟩
    · obtain ⟨out, hX, hY⟩ := wp_l (hd := hd) (yh := yh) (x1 := x1) h1 h5 L (j + 1) a hL' hjl
      exact ⟨out, xs a out (fun z => absurd z c) (fun _ => rfl) hX, ys_ a out (fun z => absurd z c) (fun _ => rfl) hY⟩
theorem i_vc_pattern {k : Nat} {u : SX} {v : SY} (I : i_Rel k u v) (hk : k + 4 ≤ 2049) (v1 : Int32) : wpX_pattern (fun r u' => wpY_pattern (fun r' v' => r' = r ∧ i_Rel (k + 4) u' v') v v1) u v1 := by
  refine rel_e (P := fun u v => wpX_pattern (fun r u' => wpY_pattern (fun r' v' => r' = r ∧ i_Rel (k + 4) u' v') v v1) u v1) ?_ I
  intro n M fk ar ac cb al hd be ab bw wk fl fa co se dp yh ys yf yo yp h1 h5 hK hM
  unfold wpX_pattern wpY_pattern
  dsimp only
  refine x_lay h1 h5 hK (fun hn fk' be' ab' bw' hK' => br_t rfl ?_) (fun s hs fk' be' ab' bw' W FL FA hK' hW hS => br_f (by decide) ?_)
  · exact y_find h1 h5 (fun _ d zs => br_t rfl ⟨rfl, rel_i h1 h5 (Or.inr hK') hM⟩) (fun s hs => no_some hn hs)
  have A := kth_asm h1 h5 hs
  obtain ⟨o, oX, oY⟩ := pat_ex (M := mt n s) h1 h5 A
  refine x_pat oX hS (fun ar' ac' cb' se' => ?_)
  refine y_find h1 h5 (fun z => no_some z hs) (fun s' hs' d zs F hF => br_f (by decide) ?_)
  rw [hs] at hs'
  cases hs'
  exact y_pat oY hF (fun yp' => ⟨rfl, rel_i h1 h5 (Or.inr hK') hM⟩)
theorem i_vc_withPattern {k : Nat} {u : SX} {v : SY} (I : i_Rel k u v) (hk : k + 4 ≤ 2049) (v1 : Int32) : wpX_withPattern (fun r u' => wpY_withPattern (fun r' v' => r' = r ∧ i_Rel (k + 4) u' v') v v1) u v1 := by
  refine rel_e (P := fun u v => wpX_withPattern (fun r u' => wpY_withPattern (fun r' v' => r' = r ∧ i_Rel (k + 4) u' v') v v1) u v1) ?_ I
  intro n M fk ar ac cb al hd be ab bw wk fl fa co se dp yh ys yf yo yp h1 h5 hK hM
  unfold wpX_withPattern wpY_withPattern
  dsimp only
  obtain ⟨out, hX, hY⟩ := wp_l (al := al) (hd := hd) (yh := yh) (x1 := v1) h1 h5 (sq n (al_row al n) n 0) 0 0 rfl (Nat.zero_le _)
  refine x_find h1 h5 hK (fun fk' be' ab' bw' hK' => Exists.intro _ (hX _ (fun fk2 ar2 ac2 cb2 be2 ab2 bw2 wk2 fl2 fa2 co2 se2 hK2 => ?_) _ _ _ _ _ _ _ _ _ _ _ _ hK'))
  exact y_begin h1 h5 (fun zs IY => Exists.intro _ (hY _ (fun dp2 ys2 yf2 yo2 yp2 => ⟨rfl, rel_i h1 h5 (Or.inr hK2) hM⟩) _ _ _ _ _ IY))
end
section
/-! rings: the marks are the same set on both sides -/
def Mr (P : Nat → Prop) (S : Nat → Int32) : Prop := ∀ p, p < 25 → (S p = 0 ↔ ¬ P p)
theorem Mr_or {P Q : Nat → Prop} {S S' : Nat → Int32} (h : Mr P S) (h' : ∀ p, (S' p = 0 ↔ S p = 0 ∧ ¬ Q p)) : Mr (fun p => P p ∨ Q p) S' := fun p hp => by
  rw [h' p, h p hp]
  exact ⟨fun z w => w.elim z.1 z.2, fun z => ⟨fun w => z (Or.inl w), fun w => z (Or.inr w)⟩⟩
theorem Mr_iff {P Q : Nat → Prop} {S : Nat → Int32} (h : Mr P S) (e : ∀ p, P p ↔ Q p) : Mr Q S := fun p hp => by
  rw [h p hp, e p]
/-- the marks hold all that has an outer edge that is on -/
def Ou (n : Nat) (M : Nat → Nat → Int) (e : Nat) (P : Nat → Prop) : Prop := ∀ e', e' < e → onf M (ev n e').1 (ev n e').2.1 (ev n e').2.2 = true → P (pv (ev n e'))
def RX5 (n : Nat) (M : Nat → Nat → Int) (k e : Nat) (P P' : Nat → Prop) : Prop := ∀ (fk : Int32) (al hd be ab bw wk fl fa co : Nat → Int32), SU n M n 0 fl fa → ∀ post : Int32 → SX → Prop,
  (∀ (ar ac cb : Int32) (se : Nat → Int32), Mr P' se → ∃ q, wX_rings_74 post q 0 0 (nI n) (nI (tb_R n)) fk ar ac cb (tP n) (tM n) al hd be ab bw wk fl fa co se) → ∀ (ar ac cb : Int32) (se : Nat → Int32), Mr P se → wX_rings_35 post (k + 1) (nI e) (nI n) (nI (tb_R n)) fk ar ac cb (tP n) (tM n) al hd be ab bw wk fl fa co se
def RY5 (n : Nat) (M : Nat → Nat → Int) (k e : Nat) (P P' : Nat → Prop) : Prop := ∀ (dp : Int32) (al yh ys yf yo : Nat → Int32), (∀ r, r < n → ∀ c, c < n → yf (5 * r + c) = iz_n (M r c)) → ∀ post : Int32 → SY → Prop,
  (∀ yp : Nat → Int32, Mr P' yp → ∃ q, wY_rings_67 post q 0 0 (nI n) dp al yh ys yf yo yp) → ∀ yp : Nat → Int32, Mr P yp → wY_rings_33 post (k + 1) (nI e) (nI n) dp al yh ys yf yo yp
theorem rg_5 {n : Nat} {M : Nat → Nat → Int} (h1 : 1 ≤ n) (h5 : n ≤ 5) (A : Asm n M) : ∀ (k e : Nat) (P : Nat → Prop), e + k = 4 * n → Cl n (onf M) P → Ou n M e P → ∃ P' : Nat → Prop, Cl n (onf M) P' ∧ Ou n M (4 * n) P' ∧ RX5 n M k e P P' ∧ RY5 n M k e P P'
  | 0, e, P, h, hC, hO => by
    have e4 : 4 * nI n = nI (4 * n) := pk_mul 4 n
    have q : e = 4 * n := by omega
    subst q
    refine ⟨P, hC, hO, fun fk al hd be ab bw wk fl fa co hS post H ar ac cb se hm => ?_, fun dp al yh ys yf yo hF post H yp hm => ?_⟩
    · exact br_t (by rw [e4]; exact nI_le (Nat.le_refl _) (by omega)) (H ar ac cb se hm)
    · exact br_t (by rw [e4]; exact nI_le (Nat.le_refl _) (by omega)) (H yp hm)
  | k + 1, e, P, h, hC, hO => by
    have e4 : 4 * nI n = nI (4 * n) := pk_mul 4 n
    have he : e < 4 * n := by omega
    have b' : ¬ 4 * nI n ≤ nI e := by rw [e4]; exact nI_ge he (by omega)
    cases z : onf M (ev n e).1 (ev n e).2.1 (ev n e).2.2 with
    | false =>
      obtain ⟨P', c1, c2, hX, hY⟩ := rg_5 h1 h5 A k (e + 1) P (by omega) hC (fun e' he' z' => by
        by_cases q : e' = e
        · subst q; rw [z] at z'; cases z'
        · exact hO e' (by omega) z')
      refine ⟨P', c1, c2, fun fk al hd be ab bw wk fl fa co hS post H ar ac cb se hm => ?_, fun dp al yh ys yf yo hF post H yp hm => ?_⟩
      · exact br_f b' (x_oOn h1 h5 A hS he (fun z' => by rw [z] at z'; cases z') (fun _ => br_t rfl (nm_r (nI_1 e) (hX _ _ _ _ _ _ _ _ _ _ hS post H _ _ _ _ hm))))
      · exact br_f b' (y_oOn h1 h5 A hF he (fun z' => by rw [z] at z'; cases z') (fun _ => br_t rfl (nm_r (nI_1 e) (hY _ _ _ _ _ _ hF post H _ hm))))
    | true =>
      obtain ⟨m, T⟩ := PT_ex h1 h5 A he z
      have g := ev_Gd h1 he z
      have cp : Cl n (onf M) (Ps n (onf M) (ev n e) m) := Cl_path h5 (on_FP A) g (ev_in h1 he).2.2.2 T.2.1 T.2.2.2
      obtain ⟨P', c1, c2, hX, hY⟩ := rg_5 h1 h5 A k (e + 1) (fun p => P p ∨ Ps n (onf M) (ev n e) m p) (by omega) (Cl_or hC cp) (fun e' he' z' => by
        by_cases q : e' = e
        · subst q; exact Or.inr ⟨0, Nat.zero_le _, rfl⟩
        · exact Or.inl (hO e' (by omega) z'))
      refine ⟨P', c1, c2, fun fk al hd be ab bw wk fl fa co hS post H ar ac cb se hm => ?_, fun dp al yh ys yf yo hF post H yp hm => ?_⟩
      · exact br_f b' (x_oOn h1 h5 A hS he (fun _ => br_f (by decide) (x_follow h1 h5 A hS he z T (fun ar' ac' cb' S hS' => nm_r (nI_1 e) (hX _ _ _ _ _ _ _ _ _ _ hS post H _ _ _ _ (Mr_or hm hS'))))) (fun z' => by rw [z] at z'; cases z'))
      · exact br_f b' (y_oOn h1 h5 A hF he (fun _ => br_f (by decide) (y_endOf h1 h5 A hF he z T (fun S hS' => nm_r (nI_1 e) (hY _ _ _ _ _ _ hF post H _ (Mr_or hm hS'))))) (fun z' => by rw [z] at z'; cases z'))
/-- from place to place, k places of the component, l of the reference -/
def RX7 (n : Nat) (M : Nat → Nat → Int) (k p a p' a' : Nat) (P P' : Nat → Prop) : Prop := ∀ (fk : Int32) (al hd be ab bw wk fl fa co : Nat → Int32), SU n M n 0 fl fa → ∀ (post : Int32 → SX → Prop) (q : Nat),
  (∀ (ar ac cb : Int32) (se : Nat → Int32), Mr P' se → wX_rings_74 post q (nI a') (nI p') (nI n) (nI (tb_R n)) fk ar ac cb (tP n) (tM n) al hd be ab bw wk fl fa co se) → ∀ (ar ac cb : Int32) (se : Nat → Int32), Mr P se → wX_rings_74 post (q + k) (nI a) (nI p) (nI n) (nI (tb_R n)) fk ar ac cb (tP n) (tM n) al hd be ab bw wk fl fa co se
def RY7 (n : Nat) (M : Nat → Nat → Int) (k d a d' a' : Nat) (P P' : Nat → Prop) : Prop := ∀ (dp : Int32) (al yh ys yf yo : Nat → Int32), (∀ r, r < n → ∀ c, c < n → yf (5 * r + c) = iz_n (M r c)) → ∀ (post : Int32 → SY → Prop) (q : Nat),
  (∀ yp : Nat → Int32, Mr P' yp → wY_rings_67 post q (nI a') (nI d') (nI n) dp al yh ys yf yo yp) → ∀ yp : Nat → Int32, Mr P yp → wY_rings_67 post (q + k) (nI a) (nI d) (nI n) dp al yh ys yf yo yp
theorem RX7_0 {n : Nat} {M : Nat → Nat → Int} {p a : Nat} {P : Nat → Prop} : RX7 n M 0 p a p a P P := fun _ _ _ _ _ _ _ _ _ _ _ _ _ H ar ac cb se hm => H ar ac cb se hm
theorem RY7_0 {n : Nat} {M : Nat → Nat → Int} {d a : Nat} {P : Nat → Prop} : RY7 n M 0 d a d a P P := fun _ _ _ _ _ _ _ _ _ H yp hm => H yp hm
theorem RX7_t {n : Nat} {M : Nat → Nat → Int} {k l p a p' a' p'' a'' : Nat} {P P' P'' : Nat → Prop} (h : RX7 n M k p a p' a' P P') (h' : RX7 n M l p' a' p'' a'' P' P'') : RX7 n M (l + k) p a p'' a'' P P'' :=
  fun fk al hd be ab bw wk fl fa co hS post q H => by
    rw [← Nat.add_assoc]
    exact h fk al hd be ab bw wk fl fa co hS post (q + l) (h' fk al hd be ab bw wk fl fa co hS post q H)
theorem RY7_t {n : Nat} {M : Nat → Nat → Int} {k l p a p' a' p'' a'' : Nat} {P P' P'' : Nat → Prop} (h : RY7 n M k p a p' a' P P') (h' : RY7 n M l p' a' p'' a'' P' P'') : RY7 n M (l + k) p a p'' a'' P P'' :=
  fun dp al yh ys yf yo hF post q H => by
    rw [← Nat.add_assoc]
    exact h dp al yh ys yf yo hF post (q + l) (h' dp al yh ys yf yo hF post q H)
/-- the component passes over what is no place -/
theorem RX7_skip {n : Nat} {M : Nat → Nat → Int} (h5 : n ≤ 5) {a : Nat} {P : Nat → Prop} : ∀ (k p : Nat), p + k ≤ 25 → (∀ q, p ≤ q → q < p + k → ¬ (q / 5 < n ∧ q % 5 < n)) → RX7 n M k p a (p + k) a P P
  | 0, p, _, _ => RX7_0
  | k + 1, p, h, hn => by
    have IH := RX7_skip (M := M) (a := a) (P := P) h5 k (p + 1) (by omega) (fun q h1 h2 => hn q (by omega) (by omega))
    intro fk al hd be ab bw wk fl fa co hS post q H ar ac cb se hm
    refine pk_le 25 p (fun z => absurd z (by omega)) (fun hp => ⟨by decide, by decide, ?_⟩)
    rw [m5 (p := p) (by omega), d5 (p := p) (by omega)]
    refine x_isP h5 (fun z => absurd ((ispN h5 hp).mp z) (hn p (Nat.le_refl _) (by omega))) (fun _ => br_t rfl (nm_r (nI_1 p) ?_))
    exact IH fk al hd be ab bw wk fl fa co hS post q (by rw [show p + 1 + k = p + (k + 1) by omega]; exact H) ar ac cb se hm
theorem Ps_eq {n : Nat} {f : Nat → Nat → Nat → Bool} {x y : Pos} {m l : Nat} (h5 : n ≤ 5) (F : FP n f) (hx : Gd n f x) (hy : Gd n f y) (hxy : pv x = pv y)
    (a1 : ∀ i, i < m + 1 → nxo n f (tr n f x i) ≠ none) (a2 : ∀ i, i < m → pv (tr n f x (i + 1)) ≠ pv x) (a3 : pv (tr n f x (m + 1)) = pv x)
    (b1 : ∀ i, i < l + 1 → nxo n f (tr n f y i) ≠ none) (b2 : ∀ i, i < l → pv (tr n f y (i + 1)) ≠ pv y) (b3 : pv (tr n f y (l + 1)) = pv y) : ∀ p, Ps n f x m p ↔ Ps n f y l p := by
  have cx := Cl_ring h5 F hx a1 a2 a3
  have cy' := Cl_ring h5 F hy b1 b2 b3
  intro p
  constructor
  · rintro ⟨i, hi, e⟩
    rw [e]
    exact Cl_tr F hx cy' (by rw [hxy]; exact ⟨0, Nat.zero_le _, rfl⟩) i (fun j hj => a1 j (by omega))
  · rintro ⟨i, hi, e⟩
    rw [e]
    exact Cl_tr F hy cx (by rw [← hxy]; exact ⟨0, Nat.zero_le _, rfl⟩) i (fun j hj => b1 j (by omega))
theorem Ou_out {n : Nat} {M : Nat → Nat → Int} {P : Nat → Prop} (h1 : 1 ≤ n) (hO : Ou n M (4 * n) P) : ∀ r c s, r < n → c < n → s < 4 → onf M r c s = true → nb n r c s = none → P (5 * r + c) := by
  intro r c s hr hc hs ho hn
  obtain ⟨e, he, ee⟩ := ev_oe h1 hr hc s hs hn
  have := hO e he (by rw [ee]; exact ho)
  rw [ee] at this
  exact this
theorem rg_1 {n : Nat} {M : Nat → Nat → Int} (h1 : 1 ≤ n) (h5 : n ≤ 5) (A : Asm n M) {r c a : Nat} {P : Nat → Prop} (hr : r < n) (hc : c < n) (hC : Cl n (onf M) P) (hO : Ou n M (4 * n) P) :
    ∃ (P' : Nat → Prop) (a' : Nat), Cl n (onf M) P' ∧ Ou n M (4 * n) P' ∧ RX7 n M 1 (5 * r + c) a (5 * r + c + 1) a' P P' ∧ RY7 n M 1 (r * n + c) a (r * n + c + 1) a' P P' := by
  have hN := nn_le h5
  have hi : r * n + c < n * n := by have := mu_le n hr; omega
  have q1 : (5 * r + c) / 5 = r := by omega
  have q2 : (5 * r + c) % 5 = c := by omega
  have F := on_FP A
  have ep : pa n (r * n + c) = 5 * r + c := pa_rc r hc
  by_cases hP : P (5 * r + c)
  · refine ⟨P, a, hC, hO, fun fk al hd be ab bw wk fl fa co hS post q H ar ac cb se hm => ?_, fun dp al yh ys yf yo hF post q H yp hm => ?_⟩
    · refine pk_le 25 (5 * r + c) (fun z => absurd z (by omega)) (fun hp => ⟨by decide, by decide, ?_⟩)
      rw [m5 (p := 5 * r + c) (by omega), d5 (p := 5 * r + c) (by omega), q1, q2, bq_cl (by omega)]
      exact x_isP h5 (fun _ => br_f (by decide) ⟨bq_in (by omega) (by omega), br_f (fun z => (hm _ (by omega)).mp z hP) (nm_r (nI_1 _) (H ar ac cb se hm))⟩) (fun z => absurd ⟨r, c, hr, hc, rfl, rfl⟩ z)
    · refine pk_le (n * n) (r * n + c) (fun z => absurd z (by omega)) (fun hd => y_pa h1 h5 (by omega) ?_) (hx := nI_sq n)
      rw [ep, bq_cl (by omega)]
      exact ⟨bq_in (by omega) (by omega), br_f (fun z => (hm _ (by omega)).mp z hP) (nm_r (nI_1 _) (H yp hm))⟩
  · -- a ring: the component leaves by the first side, the reference comes by it
    have T := F.1 r c hr hc
    have o4 := ot_f T 4
    have o3 := ot_f T (ot (onf M r c) 4)
    have gx : Gd n (onf M) (r, c, ot (onf M r c) (ot (onf M r c) 4)) := ⟨hr, hc, o3.1, o3.2.1⟩
    have gy : Gd n (onf M) (r, c, ot (onf M r c) 4) := ⟨hr, hc, o4.1, o4.2.1⟩
    have out := Ou_out h1 hO
    obtain ⟨m, hm25, x1, x2, x3, x4⟩ := tr_ring (x := (r, c, ot (onf M r c) (ot (onf M r c) 4))) h5 F gx hC hP out
    obtain ⟨l, hl25, y1, y2, y3, y4⟩ := tr_ring (x := (r, c, ot (onf M r c) 4)) h5 F gy hC hP out
    have eqv := Ps_eq h5 F gx gy rfl x1 x2 x3 y1 y2 y3
    have cr := Cl_ring h5 F gx x1 x2 x3
    refine ⟨fun p => P p ∨ Ps n (onf M) (r, c, ot (onf M r c) (ot (onf M r c) 4)) m p, a + 1, Cl_or hC cr, fun e' he' z' => Or.inl (hO e' he' z'), fun fk al hd be ab bw wk fl fa co hS post q H ar ac cb se hm => ?_, fun dp al yh ys yf yo hF post q H yp hm => ?_⟩
    · refine pk_le 25 (5 * r + c) (fun z => absurd z (by omega)) (fun hp => ⟨by decide, by decide, ?_⟩)
      rw [m5 (p := 5 * r + c) (by omega), d5 (p := 5 * r + c) (by omega), q1, q2, bq_cl (by omega)]
      refine x_isP h5 (fun _ => br_f (by decide) ⟨bq_in (by omega) (by omega), br_t ((hm _ (by omega)).mpr hP) ?_⟩) (fun z => absurd ⟨r, c, hr, hc, rfl, rfl⟩ z)
      refine And.intro (by decide) (nm_r (e' := nI r) ?_ ⟨by decide, nm_r (e' := nI c) ?_ (Exists.intro (m + 1 + 1) ?_)⟩)
      · rw [d5 (by omega), q1]
      · rw [m5 (by omega), q2]
      · refine x_g21 (x := (r, c, ot (onf M r c) (ot (onf M r c) 4))) (m := m) h5 A hS gx hm25 x1 x2 x3 (fun i hi' => ?_) (fun ar' ac' cb' S hS' => nm_r (nI_1 a) (nm_r (nI_1 _) (H ar' ac' cb' S (Mr_or hm hS')))) (m + 1) 0 se (-1) (by omega) Mk_0 ⟨4, ?_, cb_m1⟩
        · have g := tr_g F gx i (fun j hj => x1 j (by omega))
          exact (hm _ (pv_lt h5 g)).mpr (x4 i hi')
        · exact (ot_ot T o4.1 o4.2.1).symm
    · refine pk_le (n * n) (r * n + c) (fun z => absurd z (by omega)) (fun hd => y_pa h1 h5 (by omega) ?_) (hx := nI_sq n)
      rw [ep, bq_cl (by omega)]
      refine ⟨bq_in (by omega) (by omega), br_t ((hm _ (by omega)).mpr hP) ⟨by decide, by decide, ?_⟩⟩
      rw [m5 (p := 5 * r + c) (by omega), d5 (p := 5 * r + c) (by omega), q1, q2]
      refine y_ot h5 hr hc A hF cb_m1 ?_
      refine y_fw (x := (r, c, ot (onf M r c) 4)) (k := l + 1) h5 hr hc ?_
      refine y_fring (x := (r, c, ot (onf M r c) 4)) (m := l) h5 A hF gy hl25 y1 y2 y3 (fun S hS' => nm_r (nI_1 a) (nm_r (nI_1 _) (H S ?_))) l 0 yp (by omega) Mk_0
      refine Mr_iff (Mr_or hm hS') (fun p => ?_)
      rw [eqv p]
theorem rg_row {n : Nat} {M : Nat → Nat → Int} (h1 : 1 ≤ n) (h5 : n ≤ 5) (A : Asm n M) {r : Nat} (hr : r < n) : ∀ (k c a : Nat) (P : Nat → Prop), c + k = n → Cl n (onf M) P → Ou n M (4 * n) P →
    ∃ (P' : Nat → Prop) (a' : Nat), Cl n (onf M) P' ∧ Ou n M (4 * n) P' ∧ RX7 n M k (5 * r + c) a (5 * r + n) a' P P' ∧ RY7 n M k (r * n + c) a (r * n + n) a' P P'
  | 0, c, a, P, h, hC, hO => by
    have e : c = n := by omega
    subst e
    exact ⟨P, a, hC, hO, RX7_0, RY7_0⟩
  | k + 1, c, a, P, h, hC, hO => by
    obtain ⟨P1, a1, c1, o1, x1, y1⟩ := rg_1 (a := a) h1 h5 A hr (show c < n by omega) hC hO
    obtain ⟨P2, a2, c2, o2, x2, y2⟩ := rg_row h1 h5 A hr k (c + 1) a1 P1 (by omega) c1 o1
    exact ⟨P2, a2, c2, o2, RX7_t x1 x2, RY7_t y1 y2⟩
theorem rg_rows {n : Nat} {M : Nat → Nat → Int} (h1 : 1 ≤ n) (h5 : n ≤ 5) (A : Asm n M) : ∀ (k r a : Nat) (P : Nat → Prop), r + k = n → Cl n (onf M) P → Ou n M (4 * n) P →
    ∃ (P' : Nat → Prop) (a' f g : Nat), RX7 n M f (5 * r) a (5 * n) a' P P' ∧ RY7 n M g (r * n) a (n * n) a' P P'
  | 0, r, a, P, h, hC, hO => by
    have e : r = n := by omega
    subst e
    exact ⟨P, a, 0, 0, RX7_0, RY7_0⟩
  | k + 1, r, a, P, h, hC, hO => by
    have hr : r < n := by omega
    obtain ⟨P1, a1, c1, o1, x1, y1⟩ := rg_row h1 h5 A hr n 0 a P (by omega) hC hO
    have sk := RX7_skip (M := M) (n := n) (a := a1) (P := P1) h5 (5 - n) (5 * r + n) (by omega) (fun q h1 h2 => by omega)
    obtain ⟨P2, a2, f, g, x2, y2⟩ := rg_rows h1 h5 A k (r + 1) a1 P1 (by omega) c1 o1
    rw [show 5 * r + n + (5 - n) = 5 * (r + 1) by omega] at sk
    rw [Nat.succ_mul] at y2
    exact ⟨P2, a2, _, _, RX7_t x1 (RX7_t sk x2), RY7_t y1 y2⟩
/-- both count the same rings -/
theorem rg_all {n : Nat} {M : Nat → Nat → Int} (h1 : 1 ≤ n) (h5 : n ≤ 5) (A : Asm n M) {P : Nat → Prop} (hC : Cl n (onf M) P) (hO : Ou n M (4 * n) P) : ∃ a : Nat,
    (∀ (fk : Int32) (al hd be ab bw wk fl fa co : Nat → Int32), SU n M n 0 fl fa → ∀ post : Int32 → SX → Prop, (∀ (ar ac cb : Int32) (se : Nat → Int32), post (nI a) ((nI n), (nI (tb_R n)), fk, ar, ac, cb, (tP n), (tM n), al, hd, be, ab, bw, wk, fl, fa, co, se)) → ∀ (ar ac cb : Int32) (se : Nat → Int32), Mr P se → ∃ q, wX_rings_74 post q 0 0 (nI n) (nI (tb_R n)) fk ar ac cb (tP n) (tM n) al hd be ab bw wk fl fa co se) ∧
    (∀ (dp : Int32) (al yh ys yf yo : Nat → Int32), (∀ r, r < n → ∀ c, c < n → yf (5 * r + c) = iz_n (M r c)) → ∀ post : Int32 → SY → Prop, (∀ yp : Nat → Int32, post (nI a) ((nI n), dp, al, yh, ys, yf, yo, yp)) → ∀ yp : Nat → Int32, Mr P yp → ∃ q, wY_rings_67 post q 0 0 (nI n) dp al yh ys yf yo yp) := by
  have hN := nn_le h5
  obtain ⟨P', a, f, g, hX, hY⟩ := rg_rows h1 h5 A n 0 0 P (by omega) hC hO
  have sk := RX7_skip (M := M) (n := n) (a := a) (P := P') h5 (25 - 5 * n) (5 * n) (by omega) (fun q h1 h2 => by omega)
  have X2 := RX7_t hX sk
  refine ⟨a, fun fk al hd be ab bw wk fl fa co hS post H ar ac cb se hm => ⟨_, X2 fk al hd be ab bw wk fl fa co hS post 1 (fun ar' ac' cb' se' _ => ?_) ar ac cb se hm⟩, fun dp al yh ys yf yo hF post H yp hm => ?_⟩
  · refine br_t ?_ (H _ _ _ _)
    rw [show 5 * n + (25 - 5 * n) = 25 by omega]
    decide
  · have := hY dp al yh ys yf yo hF post 1 (fun yp' _ => br_t (by rw [nI_sq]; exact nI_le (Nat.le_refl _) (by omega)) (H yp')) yp hm
    rw [Nat.zero_mul] at this
    exact ⟨_, this⟩
section
variable {n : Nat} {fk ar ac cb : Int32} {al hd be ab bw wk fl fa co se : Nat → Int32} {dp : Int32} {yh ys yf yo yp : Nat → Int32}
theorem x_r14 {post : Int32 → SX → Prop} (H : ∀ S : Nat → Int32, (∀ p, p < 25 → S p = 0) → ∃ q, wX_rings_35 post q 0 (nI n) (nI (tb_R n)) fk ar ac cb (tP n) (tM n) al hd be ab bw wk fl fa co S) :
    ∀ (k p : Nat) (S : Nat → Int32), p + k = 25 → (∀ q, q < p → S q = 0) → wX_rings_14 post (nI n) (nI (tb_R n)) fk ar ac cb (k + 1) (nI p) (tP n) (tM n) al hd be ab bw wk fl fa co S
  | 0, p, S, h, hS => by
    have e : p = 25 := by omega
    subst e
    exact pk_le 25 25 (fun _ => H S hS) (fun z => absurd z (by omega))
  | k + 1, p, S, h, hS => by
    refine pk_le 25 p (fun z => absurd z (by omega)) (fun hp => ⟨bq_in hp (by omega), ?_⟩)
    rw [bq_cl (by omega), b0_0]
    refine nm_e (nm_r (nI_1 p) (x_r14 H k (p + 1) _ (by omega) (fun q hq => ?_)))
    by_cases c : q = p
    · subst c; exact pk_us
    · rw [pk_un c]; exact hS q (by omega)
theorem y_r12 {post : Int32 → SY → Prop} (H : ∀ S : Nat → Int32, (∀ p, p < 25 → S p = 0) → ∃ q, wY_rings_33 post q 0 (nI n) dp al yh ys yf yo S) :
    ∀ (k p : Nat) (S : Nat → Int32), p + k = 25 → (∀ q, q < p → S q = 0) → wY_rings_12 post (nI n) dp (k + 1) (nI p) al yh ys yf yo S
  | 0, p, S, h, hS => by
    have e : p = 25 := by omega
    subst e
    exact pk_le 25 25 (fun _ => H S hS) (fun z => absurd z (by omega))
  | k + 1, p, S, h, hS => by
    refine pk_le 25 p (fun z => absurd z (by omega)) (fun hp => ⟨bq_in hp (by omega), ?_⟩)
    rw [bq_cl (by omega), b0_0]
    refine nm_e (nm_r (nI_1 p) (y_r12 H k (p + 1) _ (by omega) (fun q hq => ?_)))
    by_cases c : q = p
    · subst c; exact pk_us
    · rw [pk_un c]; exact hS q (by omega)
end
theorem i_vc_rings {k : Nat} {u : SX} {v : SY} (I : i_Rel k u v) (hk : k + 4 ≤ 2049) (v1 : Int32) : wpX_rings (fun r u' => wpY_rings (fun r' v' => r' = r ∧ i_Rel (k + 4) u' v') v v1) u v1 := by
  refine rel_e (P := fun u v => wpX_rings (fun r u' => wpY_rings (fun r' v' => r' = r ∧ i_Rel (k + 4) u' v') v v1) u v1) ?_ I
  intro n M fk ar ac cb al hd be ab bw wk fl fa co se dp yh ys yf yo yp h1 h5 hK hM
  unfold wpX_rings wpY_rings
  dsimp only
  refine x_lay h1 h5 hK (fun hn fk' be' ab' bw' hK' => br_t rfl ?_) (fun s hs fk' be' ab' bw' W FL FA hK' hW hS => br_f (by decide) (Exists.intro 26 (x_r14 (fun S hS0 => ?_) 25 0 se (by omega) (fun q hq => absurd hq (by omega)))))
  · exact y_find h1 h5 (fun _ d zs => br_t rfl ⟨rfl, rel_i h1 h5 (Or.inr hK') hM⟩) (fun s hs => no_some hn hs)
  have A := kth_asm h1 h5 hs
  obtain ⟨P, c1, c2, hX, hY⟩ := rg_5 (M := mt n s) h1 h5 A (4 * n) 0 (fun _ => False) (by omega) (fun r c s r' c' hr hc hs z => z.elim) (fun e' he' => absurd he' (by omega))
  obtain ⟨a, gX, gY⟩ := rg_all h1 h5 A c1 c2
  have m0 : ∀ S : Nat → Int32, (∀ p, p < 25 → S p = 0) → Mr (fun _ => False) S := fun S h p hp => ⟨fun _ z => z, fun _ => h p hp⟩
  refine ⟨_, hX fk' al hd be' ab' bw' W FL FA co hS _ (fun ar' ac' cb' se' hm => gX fk' al hd be' ab' bw' W FL FA co hS _ (fun ar2 ac2 cb2 se2 => ?_) ar' ac' cb' se' hm) ar ac cb S (m0 S hS0)⟩
  refine y_find h1 h5 (fun z => no_some z hs) (fun s' hs' d zs F hF => br_f (by decide) (Exists.intro 26 (y_r12 (fun S2 hS2 => ?_) 25 0 yp (by omega) (fun q hq => absurd hq (by omega)))))
  rw [hs] at hs'
  cases hs'
  exact ⟨_, hY d al yh zs F yo hF _ (fun yp' hm => gY d al yh zs F yo hF _ (fun yp2 => ⟨rfl, rel_i h1 h5 (Or.inr hK') hM⟩) yp' hm) S2 (m0 S2 hS2)⟩
end
