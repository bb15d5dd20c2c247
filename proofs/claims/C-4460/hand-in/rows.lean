section
theorem pk_us {f : Nat → Int32} {k : Nat} {x : Int32} : upd f k x k = x := if_pos rfl
theorem pk_un {f : Nat → Int32} {k j : Nat} {x : Int32} (h : j ≠ k) : upd f k x j = f j := if_neg h
theorem pk_uLs {f : Nat → Int64} {k : Nat} {x : Int64} : vp_updL f k x k = x := if_pos rfl
theorem pk_uLn {f : Nat → Int64} {k j : Nat} {x : Int64} (h : j ≠ k) : vp_updL f k x j = f j := if_neg h
theorem pk_sub {a b : Nat} (h : b ≤ a) : nI a - nI b = nI (a - b) := by
  obtain ⟨c, rfl⟩ : ∃ c, a = c + b := ⟨a - b, by omega⟩
  rw [← nI_add, Int32.add_sub_cancel, Nat.add_sub_cancel]
theorem pk_m1 (n : Nat) : nI (n + 1) + (-1) = nI n := by
  rw [← nI_1, Int32.add_assoc, show (1 : Int32) + (-1) = 0 from rfl, Int32.add_zero]
theorem pk_mul (a b : Nat) : nI a * nI b = nI (a * b) := (Int32.ofNat_mul a b).symm
theorem pk_div {a d : Nat} (ha : a < 2 ^ 31) (h0 : 0 < d) (hd : d < 2 ^ 31) : nI a / nI d = nI (a / d) := by
  apply Int32.toInt_inj.mp
  rw [lg_idiv_nonneg (by rw [nI_toInt ha]; omega) (by rw [nI_toInt hd]; omega), nI_toInt ha, nI_toInt hd, nI_toInt (Nat.lt_of_le_of_lt (Nat.div_le_self a d) ha)]
  first | rfl | exact (Int.natCast_ediv _ _).symm
theorem pk_rem {a d : Nat} (ha : a < 2 ^ 31) (h0 : 0 < d) (hd : d < 2 ^ 31) : nI a - nI a / nI d * nI d = nI (a % d) := by
  rw [pk_div ha h0 hd, pk_mul, pk_sub (Nat.div_mul_le_self a d)]
  exact congrArg nI (by have := Nat.div_add_mod' a d; omega)
theorem pk_sub_toInt {a b : Nat} (ha : a < 2 ^ 30) (hb : b < 2 ^ 30) : (nI a - nI b).toInt = (a : Int) - b := by
  rw [Int32.toInt_sub, nI_toInt (by omega), nI_toInt (by omega)]
  exact Int.bmod_eq_of_le (by omega) (by omega)
theorem pk_sneg {a b : Nat} (hb : b < 2 ^ 30) (h : a < b) : nI a - nI b < 0 := by
  rw [Int32.lt_iff_toInt_lt, pk_sub_toInt (by omega) hb, show (0 : Int32).toInt = 0 from by decide]
  omega
theorem pk_ix (x : Int32) {n : Nat} (hn : n < 2 ^ 31) : x < 0 ∨ nI n ≤ x ∨ ∃ j : Nat, j < n ∧ x = nI j := by
  by_cases h : x < 0
  · exact Or.inl h
  · obtain ⟨j, hj, rfl⟩ := nI_of h
    by_cases h2 : j < n
    · exact Or.inr (Or.inr ⟨j, h2, rfl⟩)
    · exact Or.inr (Or.inl (nI_le (by omega) hj))
theorem pk_le {x y : Int32} {A B : Prop} (a b : Nat) (f : a ≤ b → A) (g : b < a → B) (hx : x = nI a := by rfl) (hy : y = nI b := by rfl) (ha : a < 2 ^ 31 := by omega) (hb : b < 2 ^ 31 := by omega) : (x ≤ y → A) ∧ (¬ x ≤ y → B) := by
  subst hx hy
  rw [nI_leI ha hb]
  exact ⟨f, fun z => g (by omega)⟩
theorem pk_lt {x y : Int32} {A B : Prop} (a b : Nat) (f : a < b → A) (g : b ≤ a → B) (hx : x = nI a := by rfl) (hy : y = nI b := by rfl) (ha : a < 2 ^ 31 := by omega) (hb : b < 2 ^ 31 := by omega) : (x < y → A) ∧ (¬ x < y → B) := by
  subst hx hy
  rw [nI_ltI ha hb]
  exact ⟨f, fun z => g (by omega)⟩
theorem pk_eq {x y : Int32} {A B : Prop} (a b : Nat) (f : a = b → A) (g : a ≠ b → B) (hx : x = nI a := by rfl) (hy : y = nI b := by rfl) (ha : a < 2 ^ 31 := by omega) (hb : b < 2 ^ 31 := by omega) : (x = y → A) ∧ (¬ x = y → B) := by
  subst hx hy
  rw [nI_eq ha hb]
  exact ⟨f, g⟩
theorem pk_in {x : Int32} (n N : Nat) (h : n < N) (hx : x = nI n := by rfl) (hN : N < 2 ^ 31 := by omega) : vp_in x N := by
  subst hx
  exact vp_in_nI h hN
theorem pk_cl {x : Int32} (n : Nat) (hx : x = nI n := by rfl) (h : n < 2 ^ 31 := by omega) : x.toNatClampNeg = n := by
  subst hx
  exact nI_clamp h
theorem pk_tn {n : Nat} (h : n < 2 ^ 32) : (nI n).toBitVec.toNat = n := Nat.mod_eq_of_lt h
theorem pk_and (x : Int32) {m : Int32} (k : Nat) (hm : m.toBitVec.toNat = 2 ^ k - 1) : x &&& m = nI (x.toBitVec.toNat % 2 ^ k) := by
  apply Int32.toBitVec_inj.mp
  apply BitVec.eq_of_toNat_eq
  rw [Int32.toBitVec_and, BitVec.toNat_and, hm, Nat.and_two_pow_sub_one_eq_mod]
  show _ = (BitVec.ofNat 32 _).toNat
  rw [BitVec.toNat_ofNat]
  exact (Nat.mod_eq_of_lt (Nat.lt_of_le_of_lt (Nat.mod_le _ _) x.toBitVec.isLt)).symm
theorem pk_andN {n : Nat} (h : n < 2 ^ 32) {m : Int32} (k : Nat) (hm : m.toBitVec.toNat = 2 ^ k - 1) : nI n &&& m = nI (n % 2 ^ k) := by
  rw [pk_and _ k hm, pk_tn h]
theorem pk_andE (x : Int32) {m : Int32} (k : Nat) (hm : m.toBitVec.toNat = 2 ^ k - 1) : ∃ j : Nat, j < 2 ^ k ∧ x &&& m = nI j := ⟨_, Nat.mod_lt _ (Nat.two_pow_pos k), pk_and x k hm⟩
theorem pk_andIn (x : Int32) {m : Int32} (k : Nat) (hm : m.toBitVec.toNat = 2 ^ k - 1) (hk : k ≤ 30) : vp_in (x &&& m) (2 ^ k) := by
  obtain ⟨j, hj, e⟩ := pk_andE x k hm
  rw [e]
  exact vp_in_nI hj (Nat.lt_of_le_of_lt (Nat.pow_le_pow_right (by decide) hk) (by decide))
theorem pk_shl (a s : Int32) (k : Nat) (hs : (s.toBitVec.smod 32).toNat = k) : (a <<< s).toBitVec.toNat = a.toBitVec.toNat * 2 ^ k % 2 ^ 32 := by
  show (a.toBitVec <<< (s.toBitVec.smod 32).toNat).toNat = _
  rw [hs, BitVec.toNat_shiftLeft, Nat.shiftLeft_eq]
theorem pk_shlN {n : Nat} (s : Int32) (k : Nat) (hs : (s.toBitVec.smod 32).toNat = k) (h : n * 2 ^ k < 2 ^ 32) : nI n <<< s = nI (n * 2 ^ k) := by
  apply Int32.toBitVec_inj.mp
  apply BitVec.eq_of_toNat_eq
  have hn : n < 2 ^ 32 := Nat.lt_of_le_of_lt (Nat.le_mul_of_pos_right n (Nat.two_pow_pos k)) h
  rw [pk_shl _ _ k hs, pk_tn hn, pk_tn h, Nat.mod_eq_of_lt h]
theorem pk_shr (a s : Int32) (k : Nat) (hs : (s.toBitVec.smod 32).toNat = k) : (a >>> s).toInt = a.toInt >>> k := by
  show (a.toBitVec.sshiftRight (s.toBitVec.smod 32).toNat).toInt = _
  rw [hs, BitVec.toInt_sshiftRight]
  rfl
theorem pk_shrN {n : Nat} (h : n < 2 ^ 31) (s : Int32) (k : Nat) (hs : (s.toBitVec.smod 32).toNat = k) : nI n >>> s = nI (n / 2 ^ k) := by
  apply Int32.toInt_inj.mp
  have h2 : n / 2 ^ k ≤ n := Nat.div_le_self _ _
  rw [pk_shr _ _ k hs, nI_toInt h, nI_toInt (by omega), Int.shiftRight_eq_div_pow]
  rfl
theorem pk_ushr (x s : Int32) (k : Nat) (hs : ((s.toUInt32 &&& Int32.toUInt32 31).toBitVec % 32).toNat = k) : (x.toUInt32 >>> (s.toUInt32 &&& Int32.toUInt32 31)).toInt32.toBitVec.toNat = x.toBitVec.toNat / 2 ^ k := by
  have e : (x.toUInt32 >>> (s.toUInt32 &&& Int32.toUInt32 31)).toInt32.toBitVec = x.toBitVec >>> k := by
    rw [← hs]
    exact UInt32.toBitVec_shiftRight _ _
  rw [e, BitVec.toNat_ushiftRight, Nat.shiftRight_eq_div_pow]
theorem pk_ushrN {n : Nat} (hn : n < 2 ^ 32) (s : Int32) (k : Nat) (hs : ((s.toUInt32 &&& Int32.toUInt32 31).toBitVec % 32).toNat = k) : ((nI n).toUInt32 >>> (s.toUInt32 &&& Int32.toUInt32 31)).toInt32 = nI (n / 2 ^ k) := by
  apply Int32.toBitVec_inj.mp
  apply BitVec.eq_of_toNat_eq
  rw [pk_ushr _ s k hs, pk_tn hn, pk_tn (Nat.lt_of_le_of_lt (Nat.div_le_self _ _) hn)]
theorem pk_nb (z : Int32) : narrow .byte (.int z.toInt8.toInt32) = .int z.toInt8.toInt32 := congrArg Value.int (by simp)
theorem pk_ns (z : Int32) : narrow .short (.int z.toInt16.toInt32) = .int z.toInt16.toInt32 := congrArg Value.int (by simp)
theorem pk_fb (r : Int32) : fits .byte (.int r.toInt8.toInt32) = true := by
  have ⟨a, b⟩ := lg_i2b_range r
  have h1 : (-128 : Int32).toInt = -128 := by decide
  have h2 : (127 : Int32).toInt = 127 := by decide
  simp only [fits, Bool.and_eq_true, decide_eq_true_eq, Int32.le_iff_toInt_le, h1, h2]
  omega
theorem pk_fs (r : Int32) : fits .short (.int r.toInt16.toInt32) = true := by
  have ⟨a, b⟩ := lg_i2s_range r
  have h1 : (-32768 : Int32).toInt = -32768 := by decide
  have h2 : (32767 : Int32).toInt = 32767 := by decide
  simp only [fits, Bool.and_eq_true, decide_eq_true_eq, Int32.le_iff_toInt_le, h1, h2]
  omega
theorem pk_charN {q : Nat} (hq : q < 65536) : narrow .char (.int (nI q)) = .int (nI q) ∧ fits .char (.int (nI q)) = true := by
  constructor
  · have e : (nI q).toUInt32.toUInt16.toUInt32.toInt32 = nI q := by
      apply Int32.toBitVec_inj.mp
      apply BitVec.eq_of_toNat_eq
      show (nI q).toUInt32.toUInt16.toUInt32.toNat = q % 2 ^ 32
      rw [UInt16.toNat_toUInt32, UInt32.toNat_toUInt16, show (nI q).toUInt32.toNat = q % 2 ^ 32 from rfl]
      omega
    exact congrArg Value.int e
  · have a : (0 : Int32) ≤ nI q := nI_pos' (by omega)
    have b : nI q ≤ 65535 := nI_le (b := 65535) (by omega) (by decide)
    show (decide ((0 : Int32) ≤ nI q) && decide (nI q ≤ 65535)) = true
    rw [decide_eq_true a, decide_eq_true b]
    rfl
theorem pk_char (x : Int32) : (x.toUInt32 % 65536).toInt32 = nI (x.toBitVec.toNat % 65536) := by
  apply Int32.toBitVec_inj.mp
  apply BitVec.eq_of_toNat_eq
  rw [pk_tn (by omega)]
  show (x.toUInt32 % 65536).toNat = _
  rw [UInt32.toNat_mod]
  rfl
theorem pk_nc (x : Int32) : narrow .char (.int (x.toUInt32 % 65536).toInt32) = .int (x.toUInt32 % 65536).toInt32 := by
  rw [pk_char]
  exact (pk_charN (Nat.mod_lt _ (by decide))).1
theorem pk_fc (x : Int32) : fits .char (.int (x.toUInt32 % 65536).toInt32) = true := by
  rw [pk_char]
  exact (pk_charN (Nat.mod_lt _ (by decide))).2
theorem pk_vb (z : Int32) : vp_nar .byte z.toInt8.toInt32 = z.toInt8.toInt32 := by rw [vp_nar_byte]; simp
theorem pk_vs (z : Int32) : vp_nar .short z.toInt16.toInt32 = z.toInt16.toInt32 := by rw [vp_nar_short]; simp
theorem pk_vc (z : Int32) : vp_nar .char (z.toUInt32 % 65536).toInt32 = (z.toUInt32 % 65536).toInt32 := Value.int.inj (pk_nc z)
theorem pk_lT {n : Nat} (h : n < 2 ^ 63) : (lN n).toInt = (n : Int) := lg_ofNat_toInt h
theorem pk_lLT {a b : Nat} (ha : a < 2 ^ 63) (hb : b < 2 ^ 63) : lN a < lN b ↔ a < b := by
  rw [Int64.lt_iff_toInt_lt, pk_lT ha, pk_lT hb]; omega
theorem pk_lLE {a b : Nat} (ha : a < 2 ^ 63) (hb : b < 2 ^ 63) : lN a ≤ lN b ↔ a ≤ b := by
  rw [Int64.le_iff_toInt_le, pk_lT ha, pk_lT hb]; omega
theorem pk_lEQ {a b : Nat} (ha : a < 2 ^ 63) (hb : b < 2 ^ 63) : lN a = lN b ↔ a = b := by
  rw [← Int64.toInt_inj, pk_lT ha, pk_lT hb]; omega
theorem pk_lOf {x : Int64} (h : ¬ x < 0) : ∃ k : Nat, k < 2 ^ 63 ∧ x = lN k := by
  rw [Int64.lt_iff_toInt_lt] at h
  have h0 : (0 : Int64).toInt = 0 := by decide
  have hx := Int64.toInt_lt x
  refine ⟨x.toInt.toNat, by omega, Int64.toInt_inj.mp ?_⟩
  rw [pk_lT (by omega)]
  omega
theorem pk_lDiv {a b : Nat} (ha : a < 2 ^ 63) (h0 : 0 < b) (hb : b < 2 ^ 63) : lN a / lN b = lN (a / b) := by
  apply Int64.toInt_inj.mp
  rw [lg_ldiv_nonneg (by rw [pk_lT ha]; omega) (by rw [pk_lT hb]; omega), pk_lT ha, pk_lT hb, pk_lT (Nat.lt_of_le_of_lt (Nat.div_le_self a b) ha)]
  rfl
theorem pk_lRem {a b : Nat} (ha : a < 2 ^ 63) (h0 : 0 < b) (hb : b < 2 ^ 63) : lN a - lN a / lN b * lN b = lN (a % b) := by
  rw [pk_lDiv ha h0 hb, lN_mul, lN_sub (Nat.div_mul_le_self a b)]
  exact congrArg lN (by have := Nat.div_add_mod' a b; omega)
end
section
noncomputable def tu_b (p : Prop) : Int := @ite Int p (Classical.propDecidable p) 1 0
theorem tu_b_t {p : Prop} (h : p) : tu_b p = 1 := by unfold tu_b; exact if_pos h
theorem tu_b_f {p : Prop} (h : ¬ p) : tu_b p = 0 := by unfold tu_b; exact if_neg h
theorem tu_b_iff {p q : Prop} (h : p ↔ q) : tu_b p = tu_b q := by rw [propext h]
theorem tu_b_01 (p : Prop) : tu_b p = 0 ∨ tu_b p = 1 := by
  by_cases h : p
  · exact Or.inr (tu_b_t h)
  · exact Or.inl (tu_b_f h)
theorem tu_b_and (p q : Prop) : tu_b (p ∧ q) = tu_b p * tu_b q := by
  by_cases h : p
  · by_cases g : q
    · rw [tu_b_t h, tu_b_t g, tu_b_t ⟨h, g⟩]; rfl
    · rw [tu_b_t h, tu_b_f g, tu_b_f (fun z => g z.2)]; rfl
  · rw [tu_b_f h, tu_b_f (fun z => h z.1), Int.zero_mul]
def tu_sm : Nat → (Nat → Int) → Int
  | 0, _ => 0
  | n + 1, f => tu_sm n f + f n
theorem tu_sm_0 (f : Nat → Int) : tu_sm 0 f = 0 := rfl
theorem tu_sm_s (n : Nat) (f : Nat → Int) : tu_sm (n + 1) f = tu_sm n f + f n := rfl
theorem tu_sm_congr {n : Nat} {f g : Nat → Int} (h : ∀ i, i < n → f i = g i) : tu_sm n f = tu_sm n g := by
  induction n with
  | zero => rfl
  | succ n ih => rw [tu_sm_s, tu_sm_s, ih (fun i hi => h i (by omega)), h n (by omega)]
theorem tu_sm_zero (n : Nat) : tu_sm n (fun _ => 0) = 0 := by
  induction n with
  | zero => rfl
  | succ n ih => rw [tu_sm_s, ih]; rfl
theorem tu_sm_add (n : Nat) (f g : Nat → Int) : tu_sm n (fun i => f i + g i) = tu_sm n f + tu_sm n g := by
  induction n with
  | zero => rfl
  | succ n ih => rw [tu_sm_s, tu_sm_s, tu_sm_s, ih]; omega
theorem tu_sm_sub (n : Nat) (f g : Nat → Int) : tu_sm n (fun i => f i - g i) = tu_sm n f - tu_sm n g := by
  induction n with
  | zero => rfl
  | succ n ih => rw [tu_sm_s, tu_sm_s, tu_sm_s, ih]; omega
theorem tu_sm_mul (n : Nat) (c : Int) (f : Nat → Int) : tu_sm n (fun i => c * f i) = c * tu_sm n f := by
  induction n with
  | zero => rw [tu_sm_0, tu_sm_0, Int.mul_zero]
  | succ n ih => rw [tu_sm_s, tu_sm_s, ih, Int.mul_add]
theorem tu_sm_mulr (n : Nat) (c : Int) (f : Nat → Int) : tu_sm n (fun i => f i * c) = tu_sm n f * c := by
  induction n with
  | zero => rw [tu_sm_0, tu_sm_0, Int.zero_mul]
  | succ n ih => rw [tu_sm_s, tu_sm_s, ih, Int.add_mul]
theorem tu_sm_const (n : Nat) (c : Int) : tu_sm n (fun _ => c) = n * c := by
  induction n with
  | zero => rw [tu_sm_0]; simp
  | succ n ih => rw [tu_sm_s, ih, Int.natCast_add, Int.add_mul]; simp
theorem tu_sm_le {n : Nat} {f g : Nat → Int} (h : ∀ i, i < n → f i ≤ g i) : tu_sm n f ≤ tu_sm n g := by
  induction n with
  | zero => exact Int.le_refl _
  | succ n ih =>
    rw [tu_sm_s, tu_sm_s]
    have a := ih (fun i hi => h i (by omega))
    have b := h n (by omega)
    omega
theorem tu_sm_lt {n k : Nat} {f g : Nat → Int} (h : ∀ i, i < n → f i ≤ g i) (hk : k < n) (hl : f k < g k) : tu_sm n f < tu_sm n g := by
  induction n with
  | zero => omega
  | succ n ih =>
    rw [tu_sm_s, tu_sm_s]
    have b := h n (by omega)
    by_cases e : k = n
    · have a := tu_sm_le (n := n) (f := f) (g := g) (fun i hi => h i (by omega))
      rw [e] at hl
      omega
    · have a := ih (fun i hi => h i (by omega)) (by omega)
      omega
theorem tu_sm_one {n k : Nat} {f : Nat → Int} (hk : k < n) (h : ∀ i, i < n → i ≠ k → f i = 0) : tu_sm n f = f k := by
  induction n with
  | zero => omega
  | succ n ih =>
    rw [tu_sm_s]
    by_cases e : k = n
    · rw [e, tu_sm_congr (g := fun _ => 0) (fun i hi => h i (by omega) (by omega)), tu_sm_zero]; omega
    · rw [ih (by omega) (fun i hi => h i (by omega)), h n (by omega) (by omega)]; omega
theorem tu_sm_app (a b : Nat) (f : Nat → Int) : tu_sm (a + b) f = tu_sm a f + tu_sm b (fun i => f (a + i)) := by
  induction b with
  | zero => rw [tu_sm_0]; simp
  | succ b ih => rw [← Nat.add_assoc, tu_sm_s, tu_sm_s, ih]; omega
theorem tu_sm_prod (b N : Nat) (f : Nat → Int) : tu_sm (b * N) f = tu_sm N (fun q => tu_sm b (fun d => f (b * q + d))) := by
  induction N with
  | zero => rfl
  | succ N ih => rw [Nat.mul_succ, tu_sm_app, ih, tu_sm_s]
theorem tu_sm_swap (a b : Nat) (f : Nat → Nat → Int) : tu_sm a (fun i => tu_sm b (fun j => f i j)) = tu_sm b (fun j => tu_sm a (fun i => f i j)) := by
  induction a with
  | zero => exact (tu_sm_zero b).symm
  | succ a ih => rw [tu_sm_s, ih, ← tu_sm_add]; rfl
theorem tu_sm_2 (f : Nat → Int) : tu_sm 2 f = f 0 + f 1 := by
  show 0 + f 0 + f 1 = _
  omega
theorem tu_sm_head (n : Nat) (f : Nat → Int) : tu_sm (n + 1) f = f 0 + tu_sm n (fun i => f (i + 1)) := by
  rw [Nat.add_comm, tu_sm_app, tu_sm_s, tu_sm_0, Int.zero_add]
  exact congrArg (fun z => f 0 + z) (tu_sm_congr (fun i _ => by rw [Nat.add_comm]))
def tu_ss : List (Nat × Nat) → (List (Nat × Nat) → Int) → Int
  | [], f => f []
  | e :: es, f => tu_ss es f + tu_ss es (fun A => f (e :: A))
theorem tu_ss_0 (f : List (Nat × Nat) → Int) : tu_ss [] f = f [] := rfl
theorem tu_ss_s (e : Nat × Nat) (es : List (Nat × Nat)) (f : List (Nat × Nat) → Int) : tu_ss (e :: es) f = tu_ss es f + tu_ss es (fun A => f (e :: A)) := rfl
theorem tu_ss_congr {es : List (Nat × Nat)} : ∀ {f g : List (Nat × Nat) → Int}, (∀ A, (∀ x, x ∈ A → x ∈ es) → A.length ≤ es.length → f A = g A) → tu_ss es f = tu_ss es g := by
  induction es with
  | nil => intro f g h; exact h [] (fun x hx => hx) (Nat.le_refl _)
  | cons e es ih =>
    intro f g h
    rw [tu_ss_s, tu_ss_s]
    rw [ih (f := f) (g := g) (fun A h1 h2 => h A (fun x hx => List.mem_cons_of_mem _ (h1 x hx)) (by rw [List.length_cons]; omega))]
    rw [ih (f := fun A => f (e :: A)) (g := fun A => g (e :: A)) (fun A h1 h2 => h (e :: A) (fun x hx => by
      rcases List.mem_cons.mp hx with r | r
      · rw [r]; exact List.mem_cons_self
      · exact List.mem_cons_of_mem _ (h1 x r)) (by rw [List.length_cons, List.length_cons]; omega))]
theorem tu_ss_add {es : List (Nat × Nat)} : ∀ (f g : List (Nat × Nat) → Int), tu_ss es (fun A => f A + g A) = tu_ss es f + tu_ss es g := by
  induction es with
  | nil => intro f g; rfl
  | cons e es ih => intro f g; rw [tu_ss_s, tu_ss_s, tu_ss_s, ih, ih]; omega
theorem tu_ss_sub {es : List (Nat × Nat)} : ∀ (f g : List (Nat × Nat) → Int), tu_ss es (fun A => f A - g A) = tu_ss es f - tu_ss es g := by
  induction es with
  | nil => intro f g; rfl
  | cons e es ih => intro f g; rw [tu_ss_s, tu_ss_s, tu_ss_s, ih, ih]; omega
theorem tu_ss_mul {es : List (Nat × Nat)} (c : Int) : ∀ (f : List (Nat × Nat) → Int), tu_ss es (fun A => c * f A) = c * tu_ss es f := by
  induction es with
  | nil => intro f; rfl
  | cons e es ih => intro f; rw [tu_ss_s, tu_ss_s, ih, ih, Int.mul_add]
theorem tu_ss_zero {es : List (Nat × Nat)} : tu_ss es (fun _ => 0) = 0 := by
  induction es with
  | nil => rfl
  | cons e es ih => rw [tu_ss_s, ih]; rfl
def tu_sub : List (Nat × Nat) → Nat → List (Nat × Nat)
  | [], _ => []
  | e :: es, a => if a % 2 = 1 then e :: tu_sub es (a / 2) else tu_sub es (a / 2)
theorem tu_sub_0 (e : Nat × Nat) (es : List (Nat × Nat)) (q : Nat) : tu_sub (e :: es) (2 * q + 0) = tu_sub es q := by
  show (if (2 * q + 0) % 2 = 1 then _ else _) = _
  rw [if_neg (by omega), show (2 * q + 0) / 2 = q from by omega]
theorem tu_sub_1 (e : Nat × Nat) (es : List (Nat × Nat)) (q : Nat) : tu_sub (e :: es) (2 * q + 1) = e :: tu_sub es q := by
  show (if (2 * q + 1) % 2 = 1 then _ else _) = _
  rw [if_pos (by omega), show (2 * q + 1) / 2 = q from by omega]
theorem tu_sub_ss {es : List (Nat × Nat)} : ∀ (f : List (Nat × Nat) → Int), tu_sm (2 ^ es.length) (fun a => f (tu_sub es a)) = tu_ss es f := by
  induction es with
  | nil => intro f; show 0 + f [] = f []; omega
  | cons e es ih =>
    intro f
    rw [List.length_cons, Nat.pow_succ, Nat.mul_comm, tu_sm_prod, tu_ss_s, ← ih f, ← ih (fun A => f (e :: A)), ← tu_sm_add]
    apply tu_sm_congr
    intro q _
    rw [tu_sm_2, tu_sub_0, tu_sub_1]
theorem tu_sub_mem {es : List (Nat × Nat)} : ∀ (a : Nat) (x : Nat × Nat), x ∈ tu_sub es a → x ∈ es := by
  induction es with
  | nil => intro a x h; exact h
  | cons e es ih =>
    intro a x h
    by_cases c : a % 2 = 1
    · rw [tu_sub, if_pos c] at h
      rcases List.mem_cons.mp h with r | r
      · rw [r]; exact List.mem_cons_self
      · exact List.mem_cons_of_mem _ (ih _ _ r)
    · rw [tu_sub, if_neg c] at h
      exact List.mem_cons_of_mem _ (ih _ _ h)
theorem tu_sub_len {es : List (Nat × Nat)} : ∀ (a : Nat), (tu_sub es a).length ≤ es.length := by
  induction es with
  | nil => intro a; exact Nat.le_refl _
  | cons e es ih =>
    intro a
    have h := ih (a / 2)
    by_cases c : a % 2 = 1
    · rw [tu_sub, if_pos c, List.length_cons, List.length_cons]; omega
    · rw [tu_sub, if_neg c, List.length_cons]; omega
end
section
def tu_jn (L : Nat → Nat) (u v : Nat) : Nat → Nat := fun p => if L p = max (L u) (L v) then min (L u) (L v) else L p
def tu_ok (L : Nat → Nat) : Prop := ∀ p, L p ≤ p ∧ L (L p) = L p
def tu_rs (f L : Nat → Nat) : Prop := ∀ p, f (L p) = f p
def tu_re (f : Nat → Nat) (A : List (Nat × Nat)) : Prop := ∀ e, e ∈ A → f e.1 = f e.2
def tu_hi (n : Nat) (L : Nat → Nat) : Prop := ∀ p, n ≤ p → L p = p
theorem tu_jn_eq {L : Nat → Nat} {u v p : Nat} (h : L p = max (L u) (L v)) : tu_jn L u v p = min (L u) (L v) := if_pos h
theorem tu_jn_ne {L : Nat → Nat} {u v p : Nat} (h : ¬ L p = max (L u) (L v)) : tu_jn L u v p = L p := if_neg h
theorem tu_jn_u {L : Nat → Nat} {u v : Nat} : tu_jn L u v u = min (L u) (L v) := by
  by_cases h : L u = max (L u) (L v)
  · exact tu_jn_eq h
  · rw [tu_jn_ne h]; omega
theorem tu_jn_v {L : Nat → Nat} {u v : Nat} : tu_jn L u v v = min (L u) (L v) := by
  by_cases h : L v = max (L u) (L v)
  · exact tu_jn_eq h
  · rw [tu_jn_ne h]; omega
theorem tu_jn_same {L : Nat → Nat} {u v : Nat} (h : L u = L v) : tu_jn L u v = L := by
  funext p
  by_cases c : L p = max (L u) (L v)
  · rw [tu_jn_eq c, c]; omega
  · exact tu_jn_ne c
theorem tu_jn_rs {f L : Nat → Nat} {u v : Nat} (h : tu_ok L) : tu_rs f (tu_jn L u v) ↔ tu_rs f L ∧ f u = f v := by
  constructor
  · intro r
    constructor
    · intro p
      have a := r (L p)
      have b := r p
      have c : tu_jn L u v (L p) = tu_jn L u v p := by unfold tu_jn; rw [(h p).2]
      rw [c] at a
      rw [← a, b]
    · have a := r u
      have b := r v
      rw [tu_jn_u] at a
      rw [tu_jn_v] at b
      rw [← a, b]
  · intro ⟨r, e⟩ p
    by_cases c : L p = max (L u) (L v)
    · rw [tu_jn_eq c, ← r p, c]
      have a := r u
      have b := r v
      rcases Nat.le_total (L u) (L v) with g | g
      · rw [Nat.min_eq_left g, Nat.max_eq_right g, a, b, e]
      · rw [Nat.min_eq_right g, Nat.max_eq_left g, a, b, e]
    · rw [tu_jn_ne c]; exact r p
theorem tu_jn_ok {L : Nat → Nat} {u v : Nat} (h : tu_ok L) : tu_ok (tu_jn L u v) := by
  intro p
  have hu := (h u).2
  have hv := (h v).2
  have hp := h p
  by_cases c : L p = max (L u) (L v)
  · rw [tu_jn_eq c]
    refine ⟨by omega, ?_⟩
    have q : L (min (L u) (L v)) = min (L u) (L v) := by
      rcases Nat.le_total (L u) (L v) with g | g
      · rw [Nat.min_eq_left g, hu]
      · rw [Nat.min_eq_right g, hv]
    by_cases d : L (min (L u) (L v)) = max (L u) (L v)
    · exact tu_jn_eq d
    · rw [tu_jn_ne d, q]
  · rw [tu_jn_ne c]
    refine ⟨hp.1, ?_⟩
    rw [tu_jn_ne (by rw [hp.2]; exact c), hp.2]
theorem tu_jn_hi {n : Nat} {L : Nat → Nat} {u v : Nat} (h : tu_ok L) (hL : tu_hi n L) (hu : u < n) (hv : v < n) : tu_hi n (tu_jn L u v) := by
  intro p hp
  have a := (h u).1
  have b := (h v).1
  have c := hL p hp
  rw [tu_jn_ne (by omega), c]
theorem tu_id_ok : tu_ok (fun p => p) := fun p => ⟨Nat.le_refl _, rfl⟩
theorem tu_id_hi (n : Nat) : tu_hi n (fun p => p) := fun _ _ => rfl
theorem tu_ok_ext {L K : Nat → Nat} (hL : tu_ok L) (hK : tu_ok K) (h : ∀ f, tu_rs f L ↔ tu_rs f K) : L = K := by
  have a : tu_rs L K := (h L).mp (fun p => (hL p).2)
  have b : tu_rs K L := (h K).mpr (fun p => (hK p).2)
  funext p
  have a1 := a p
  have b1 := b p
  have a2 := (hL (K p)).1
  have b2 := (hK (L p)).1
  omega
def tu_fd : List (Nat × Nat) → (Nat → Nat) → Nat → Nat
  | [], L => L
  | e :: A, L => tu_fd A (tu_jn L e.1 e.2)
theorem tu_fd_ok {A : List (Nat × Nat)} : ∀ {L : Nat → Nat}, tu_ok L → tu_ok (tu_fd A L) := by
  induction A with
  | nil => intro L h; exact h
  | cons e A ih => intro L h; exact ih (tu_jn_ok h)
theorem tu_fd_hi {n : Nat} {A : List (Nat × Nat)} : ∀ {L : Nat → Nat}, tu_ok L → tu_hi n L → (∀ e, e ∈ A → e.1 < n ∧ e.2 < n) → tu_hi n (tu_fd A L) := by
  induction A with
  | nil => intro L _ h _; exact h
  | cons e A ih =>
    intro L h g b
    have c := b e List.mem_cons_self
    exact ih (tu_jn_ok h) (tu_jn_hi h g c.1 c.2) (fun x hx => b x (List.mem_cons_of_mem _ hx))
theorem tu_fd_rs {f : Nat → Nat} {A : List (Nat × Nat)} : ∀ {L : Nat → Nat}, tu_ok L → (tu_rs f (tu_fd A L) ↔ tu_rs f L ∧ tu_re f A) := by
  induction A with
  | nil => intro L h; exact ⟨fun z => ⟨z, fun e he => nomatch he⟩, fun z => z.1⟩
  | cons e A ih =>
    intro L h
    show tu_rs f (tu_fd A (tu_jn L e.1 e.2)) ↔ _
    rw [ih (tu_jn_ok h), tu_jn_rs h]
    constructor
    · intro ⟨⟨a, b⟩, c⟩
      refine ⟨a, fun x hx => ?_⟩
      rcases List.mem_cons.mp hx with r | r
      · rw [r]; exact b
      · exact c x r
    · intro ⟨a, c⟩
      exact ⟨⟨a, c e List.mem_cons_self⟩, fun x hx => c x (List.mem_cons_of_mem _ hx)⟩
theorem tu_fd_jn {L : Nat → Nat} {u v : Nat} (A : List (Nat × Nat)) (h : tu_ok L) : tu_fd A (tu_jn L u v) = tu_jn (tu_fd A L) u v := by
  apply tu_ok_ext (tu_fd_ok (tu_jn_ok h)) (tu_jn_ok (tu_fd_ok h))
  intro f
  rw [tu_fd_rs (tu_jn_ok h), tu_jn_rs h, tu_jn_rs (tu_fd_ok h), tu_fd_rs h]
  constructor
  · intro ⟨⟨a, b⟩, c⟩; exact ⟨⟨a, c⟩, b⟩
  · intro ⟨⟨a, c⟩, b⟩; exact ⟨⟨a, b⟩, c⟩
theorem tu_fd_mono {L : Nat → Nat} {A E : List (Nat × Nat)} (h : tu_ok L) (hA : ∀ x, x ∈ A → x ∈ E) : tu_rs (tu_fd E L) (tu_fd A L) := by
  have a : tu_rs (tu_fd E L) (tu_fd E L) := fun p => (tu_fd_ok h p).2
  have b := (tu_fd_rs h).mp a
  exact (tu_fd_rs h).mpr ⟨b.1, fun e he => b.2 e (hA e he)⟩
theorem tu_fd_ne {L : Nat → Nat} {A E : List (Nat × Nat)} {u v : Nat} (h : tu_ok L) (hA : ∀ x, x ∈ A → x ∈ E) (hn : ¬ tu_fd E L u = tu_fd E L v) : ¬ tu_fd A L u = tu_fd A L v := by
  intro e
  have m := tu_fd_mono h hA
  apply hn
  rw [← m u, e, m v]
def tu_fx : Nat → (Nat → Nat) → Nat
  | 0, _ => 0
  | n + 1, L => tu_fx n L + (if L n = n then 1 else 0)
theorem tu_fx_s (n : Nat) (L : Nat → Nat) : tu_fx (n + 1) L = tu_fx n L + (if L n = n then 1 else 0) := rfl
theorem tu_fx_id (n : Nat) : tu_fx n (fun p => p) = n := by
  induction n with
  | zero => rfl
  | succ n ih => rw [tu_fx_s, ih, if_pos rfl]
theorem tu_fx_le (n : Nat) (L : Nat → Nat) : tu_fx n L ≤ n := by
  induction n with
  | zero => exact Nat.le_refl _
  | succ n ih =>
    rw [tu_fx_s]
    split <;> omega
theorem tu_fx_pos {n : Nat} {L : Nat → Nat} (hn : 1 ≤ n) (h : tu_ok L) : 1 ≤ tu_fx n L := by
  induction n with
  | zero => omega
  | succ n ih =>
    rw [tu_fx_s]
    by_cases e : n = 0
    · subst e
      rw [if_pos (by have := (h 0).1; omega)]
      omega
    · have := ih (by omega)
      omega
theorem tu_fx_mono {n : Nat} {L K : Nat → Nat} (h : ∀ p, L p = p → K p = p) : tu_fx n L ≤ tu_fx n K := by
  induction n with
  | zero => exact Nat.le_refl _
  | succ n ih =>
    rw [tu_fx_s, tu_fx_s]
    by_cases e : L n = n
    · rw [if_pos e, if_pos (h n e)]; omega
    · rw [if_neg e]; omega
theorem tu_fx_eq {n : Nat} {L K : Nat → Nat} (h : ∀ p, p < n → L p = K p) : tu_fx n L = tu_fx n K := by
  induction n with
  | zero => rfl
  | succ n ih => rw [tu_fx_s, tu_fx_s, ih (fun p hp => h p (by omega)), h n (by omega)]
theorem tu_fx_jn_a {L : Nat → Nat} {u v : Nat} (h : tu_ok L) (hne : ¬ L u = L v) (n : Nat) : tu_fx n (tu_jn L u v) + (if max (L u) (L v) < n then 1 else 0) = tu_fx n L := by
  have hu := (h u).2
  have hv := (h v).2
  have hh : L (max (L u) (L v)) = max (L u) (L v) := by
    rcases Nat.le_total (L u) (L v) with g | g
    · rw [Nat.max_eq_right g, hv]
    · rw [Nat.max_eq_left g, hu]
  have hl : L (min (L u) (L v)) = min (L u) (L v) := by
    rcases Nat.le_total (L u) (L v) with g | g
    · rw [Nat.min_eq_left g, hu]
    · rw [Nat.min_eq_right g, hv]
  induction n with
  | zero => rw [if_neg (by omega)]; rfl
  | succ n ih =>
    rw [tu_fx_s, tu_fx_s]
    by_cases e : n = max (L u) (L v)
    · rw [if_neg (show ¬ max (L u) (L v) < n by omega)] at ih
      rw [if_pos (show max (L u) (L v) < n + 1 by omega)]
      have a : L n = n := by rw [e]; exact hh
      rw [if_pos a]
      have b : tu_jn L u v n = min (L u) (L v) := tu_jn_eq (by rw [a]; exact e)
      rw [if_neg (by rw [b]; omega)]
      omega
    · have i : (if max (L u) (L v) < n + 1 then 1 else 0) = (if max (L u) (L v) < n then 1 else 0) := by
        by_cases c : max (L u) (L v) < n
        · rw [if_pos c, if_pos (by omega)]
        · rw [if_neg c, if_neg (by omega)]
      rw [i]
      have j : (if tu_jn L u v n = n then 1 else 0) = (if L n = n then 1 else 0) := by
        by_cases c : L n = max (L u) (L v)
        · rw [tu_jn_eq c, if_neg (show ¬ L n = n by omega), if_neg]
          intro z
          rw [z] at hl
          omega
        · rw [tu_jn_ne c]
      rw [j]
      omega
theorem tu_fx_jn {n : Nat} {L : Nat → Nat} {u v : Nat} (h : tu_ok L) (hne : ¬ L u = L v) (hu : u < n) (hv : v < n) : tu_fx n (tu_jn L u v) + 1 = tu_fx n L := by
  have a := tu_fx_jn_a h hne n
  have b := (h u).1
  have c := (h v).1
  rw [if_pos (by omega)] at a
  exact a
theorem tu_fx_fd {n : Nat} {A : List (Nat × Nat)} : ∀ {L : Nat → Nat}, tu_ok L → (∀ e, e ∈ A → e.1 < n ∧ e.2 < n) → tu_fx n (tu_fd A L) ≤ tu_fx n L ∧ tu_fx n L ≤ tu_fx n (tu_fd A L) + A.length := by
  induction A with
  | nil => intro L _ _; exact ⟨Nat.le_refl _, Nat.le_refl _⟩
  | cons e A ih =>
    intro L h b
    have c := b e List.mem_cons_self
    have i := ih (L := tu_jn L e.1 e.2) (tu_jn_ok h) (fun x hx => b x (List.mem_cons_of_mem _ hx))
    show tu_fx n (tu_fd A (tu_jn L e.1 e.2)) ≤ tu_fx n L ∧ tu_fx n L ≤ tu_fx n (tu_fd A (tu_jn L e.1 e.2)) + (e :: A).length
    rw [List.length_cons]
    by_cases g : L e.1 = L e.2
    · rw [tu_jn_same g] at i ⊢
      omega
    · have j := tu_fx_jn h g c.1 c.2
      omega
theorem tu_fx_sub {n : Nat} {L : Nat → Nat} {A E : List (Nat × Nat)} (h : tu_ok L) (hA : ∀ x, x ∈ A → x ∈ E) : tu_fx n (tu_fd E L) ≤ tu_fx n (tu_fd A L) := by
  apply tu_fx_mono
  intro p hp
  have m := tu_fd_mono h hA p
  have a := (tu_fd_ok (A := A) h p).1
  have b := (tu_fd_ok (A := E) h (tu_fd A L p)).1
  omega
end
section
def tu_nl (n : Nat) (L : Nat → Nat) (A : List (Nat × Nat)) : Nat := A.length + tu_fx n (tu_fd A L) - tu_fx n L
def tu_T (n : Nat) (w : Nat → Nat → Int) (es : List (Nat × Nat)) (L : Nat → Nat) : Int :=
  tu_ss es (fun A => w (tu_fx n (tu_fd A L) - tu_fx n (tu_fd es L)) (tu_nl n L A))
def tu_bd (n : Nat) (es : List (Nat × Nat)) : Prop := ∀ e, e ∈ es → e.1 < n ∧ e.2 < n
theorem tu_bd_tl {n : Nat} {e : Nat × Nat} {es : List (Nat × Nat)} (h : tu_bd n (e :: es)) : tu_bd n es := fun x hx => h x (List.mem_cons_of_mem _ hx)
theorem tu_bd_hd {n : Nat} {e : Nat × Nat} {es : List (Nat × Nat)} (h : tu_bd n (e :: es)) : e.1 < n ∧ e.2 < n := h e List.mem_cons_self
theorem tu_bd_sub {n : Nat} {A es : List (Nat × Nat)} (h : tu_bd n es) (hA : ∀ x, x ∈ A → x ∈ es) : tu_bd n A := fun x hx => h x (hA x hx)
theorem tu_nl_loop {n : Nat} {L : Nat → Nat} {e : Nat × Nat} {A : List (Nat × Nat)} (h : tu_ok L) (hA : tu_bd n A) (g : L e.1 = L e.2) : tu_nl n L (e :: A) = tu_nl n L A + 1 := by
  have a := tu_fx_fd (L := L) h hA
  unfold tu_nl
  show (e :: A).length + tu_fx n (tu_fd A (tu_jn L e.1 e.2)) - _ = _
  rw [tu_jn_same g, List.length_cons]
  omega
theorem tu_nl_non {n : Nat} {L : Nat → Nat} {e : Nat × Nat} {A : List (Nat × Nat)} (h : tu_ok L) (hA : tu_bd n A) (he : e.1 < n ∧ e.2 < n) (g : ¬ L e.1 = L e.2) : tu_nl n L (e :: A) = tu_nl n (tu_jn L e.1 e.2) A := by
  have a := tu_fx_fd (L := tu_jn L e.1 e.2) (tu_jn_ok h) hA
  have b := tu_fx_jn h g he.1 he.2
  unfold tu_nl
  show (e :: A).length + tu_fx n (tu_fd A (tu_jn L e.1 e.2)) - _ = _
  rw [List.length_cons]
  omega
theorem tu_T_0 (n : Nat) (w : Nat → Nat → Int) (L : Nat → Nat) : tu_T n w [] L = w 0 0 := by
  show w (tu_fx n L - tu_fx n L) (0 + tu_fx n L - tu_fx n L) = w 0 0
  rw [Nat.sub_self, Nat.zero_add, Nat.sub_self]
theorem tu_T_loop {n : Nat} {L : Nat → Nat} {e : Nat × Nat} {es : List (Nat × Nat)} (w : Nat → Nat → Int) (h : tu_ok L) (hb : tu_bd n (e :: es)) (g : L e.1 = L e.2) : tu_T n w (e :: es) L = tu_T n (fun p q => w p q + w p (q + 1)) es L := by
  unfold tu_T
  rw [tu_ss_s, ← tu_ss_add]
  apply tu_ss_congr
  intro A hA _
  rw [tu_nl_loop h (tu_bd_sub (tu_bd_tl hb) hA) g]
  show w (_ - tu_fx n (tu_fd es (tu_jn L e.1 e.2))) _ + w (tu_fx n (tu_fd A (tu_jn L e.1 e.2)) - tu_fx n (tu_fd es (tu_jn L e.1 e.2))) _ = _
  rw [tu_jn_same g]
theorem tu_T_bridge {n : Nat} {L : Nat → Nat} {e : Nat × Nat} {es : List (Nat × Nat)} (w : Nat → Nat → Int) (h : tu_ok L) (hb : tu_bd n (e :: es)) (g : ¬ L e.1 = L e.2) (br : ¬ tu_fd es L e.1 = tu_fd es L e.2) : tu_T n w (e :: es) L = tu_T n (fun p q => w p q + w (p + 1) q) es (tu_jn L e.1 e.2) := by
  unfold tu_T
  rw [tu_ss_s, ← tu_ss_add]
  apply tu_ss_congr
  intro A hA _
  have he := tu_bd_hd hb
  have c := tu_bd_sub (tu_bd_tl hb) hA
  rw [tu_nl_non h c he g]
  have i := tu_fx_jn (tu_fd_ok (A := A) h) (tu_fd_ne h hA br) he.1 he.2
  rw [← tu_fd_jn A h] at i
  have j := tu_fx_sub (n := n) (L := tu_jn L e.1 e.2) (tu_jn_ok h) hA
  have k := tu_fx_jn h g he.1 he.2
  have l := tu_fx_fd (n := n) (A := A) (L := tu_jn L e.1 e.2) (tu_jn_ok h) c
  show w (tu_fx n (tu_fd A L) - tu_fx n (tu_fd es (tu_jn L e.1 e.2))) (tu_nl n L A) + w (tu_fx n (tu_fd A (tu_jn L e.1 e.2)) - tu_fx n (tu_fd es (tu_jn L e.1 e.2))) _ = _
  rw [show tu_nl n L A = tu_nl n (tu_jn L e.1 e.2) A from by unfold tu_nl; omega]
  rw [show tu_fx n (tu_fd A L) - tu_fx n (tu_fd es (tu_jn L e.1 e.2)) = tu_fx n (tu_fd A (tu_jn L e.1 e.2)) - tu_fx n (tu_fd es (tu_jn L e.1 e.2)) + 1 from by omega]
  exact Int.add_comm _ _
theorem tu_T_other {n : Nat} {L : Nat → Nat} {e : Nat × Nat} {es : List (Nat × Nat)} (w : Nat → Nat → Int) (h : tu_ok L) (hb : tu_bd n (e :: es)) (g : ¬ L e.1 = L e.2) (br : tu_fd es L e.1 = tu_fd es L e.2) : tu_T n w (e :: es) L = tu_T n w es L + tu_T n w es (tu_jn L e.1 e.2) := by
  unfold tu_T
  rw [tu_ss_s, ← tu_ss_add, ← tu_ss_add]
  apply tu_ss_congr
  intro A hA _
  have he := tu_bd_hd hb
  have c := tu_bd_sub (tu_bd_tl hb) hA
  rw [tu_nl_non h c he g]
  show w (tu_fx n (tu_fd A L) - tu_fx n (tu_fd es (tu_jn L e.1 e.2))) (tu_nl n L A) + w (tu_fx n (tu_fd A (tu_jn L e.1 e.2)) - tu_fx n (tu_fd es (tu_jn L e.1 e.2))) _ = _
  have i : tu_fx n (tu_fd es (tu_jn L e.1 e.2)) = tu_fx n (tu_fd es L) := by rw [tu_fd_jn es h, tu_jn_same br]
  rw [show tu_fx n (tu_fd A L) - tu_fx n (tu_fd es (tu_jn L e.1 e.2)) = tu_fx n (tu_fd A L) - tu_fx n (tu_fd es L) from by rw [i]]
def tu_tg (B : Nat → Nat → Int) : List (Nat × Nat) → (Nat → Nat) → Nat → Nat → Int
  | [], _, a, b => B a b
  | e :: es, L, a, b =>
    if L e.1 = L e.2 then tu_tg B es L a (b + 1)
    else if tu_fd es L e.1 = tu_fd es L e.2 then tu_tg B es L a b + tu_tg B es (tu_jn L e.1 e.2) a b
    else tu_tg B es (tu_jn L e.1 e.2) (a + 1) b
theorem tu_tg_loop {B : Nat → Nat → Int} {e : Nat × Nat} {es : List (Nat × Nat)} {L : Nat → Nat} {a b : Nat} (g : L e.1 = L e.2) : tu_tg B (e :: es) L a b = tu_tg B es L a (b + 1) := if_pos g
theorem tu_tg_other {B : Nat → Nat → Int} {e : Nat × Nat} {es : List (Nat × Nat)} {L : Nat → Nat} {a b : Nat} (g : ¬ L e.1 = L e.2) (br : tu_fd es L e.1 = tu_fd es L e.2) : tu_tg B (e :: es) L a b = tu_tg B es L a b + tu_tg B es (tu_jn L e.1 e.2) a b := (if_neg g).trans (if_pos br)
theorem tu_tg_bridge {B : Nat → Nat → Int} {e : Nat × Nat} {es : List (Nat × Nat)} {L : Nat → Nat} {a b : Nat} (g : ¬ L e.1 = L e.2) (br : ¬ tu_fd es L e.1 = tu_fd es L e.2) : tu_tg B (e :: es) L a b = tu_tg B es (tu_jn L e.1 e.2) (a + 1) b := (if_neg g).trans (if_neg br)
theorem tu_tg_T {n : Nat} (W : Nat → Nat → Nat → Nat → Int) (hx : ∀ a b p q, W (a + 1) b p q = W a b p q + W a b (p + 1) q) (hy : ∀ a b p q, W a (b + 1) p q = W a b p q + W a b p (q + 1)) :
    ∀ (es : List (Nat × Nat)) (L : Nat → Nat) (a b : Nat), tu_ok L → tu_bd n es → tu_tg (fun a b => W a b 0 0) es L a b = tu_T n (W a b) es L := by
  intro es
  induction es with
  | nil => intro L a b _ _; exact (tu_T_0 n (W a b) L).symm
  | cons e es ih =>
    intro L a b h hb
    have t := tu_bd_tl hb
    by_cases g : L e.1 = L e.2
    · rw [tu_tg_loop g, ih L a (b + 1) h t, tu_T_loop (W a b) h hb g]
      exact congrArg (fun w => tu_T n w es L) (funext fun p => funext fun q => hy a b p q)
    · by_cases br : tu_fd es L e.1 = tu_fd es L e.2
      · rw [tu_tg_other g br, tu_T_other (W a b) h hb g br, ih L a b h t, ih _ a b (tu_jn_ok h) t]
      · rw [tu_tg_bridge g br, tu_T_bridge (W a b) h hb g br, ih _ (a + 1) b (tu_jn_ok h) t]
        exact congrArg (fun w => tu_T n w es (tu_jn L e.1 e.2)) (funext fun p => funext fun q => hx a b p q)
theorem tu_tg_congr {B C : Nat → Nat → Int} : ∀ (es : List (Nat × Nat)) (L : Nat → Nat) (a b : Nat), (∀ i j, i + j ≤ a + b + es.length → B i j = C i j) → tu_tg B es L a b = tu_tg C es L a b := by
  intro es
  induction es with
  | nil => intro L a b h; exact h a b (by simp)
  | cons e es ih =>
    intro L a b h
    rw [List.length_cons] at h
    by_cases g : L e.1 = L e.2
    · rw [tu_tg_loop g, tu_tg_loop g]
      exact ih L a (b + 1) (fun i j z => h i j (by omega))
    · by_cases br : tu_fd es L e.1 = tu_fd es L e.2
      · rw [tu_tg_other g br, tu_tg_other g br, ih L a b (fun i j z => h i j (by omega)), ih _ a b (fun i j z => h i j (by omega))]
      · rw [tu_tg_bridge g br, tu_tg_bridge g br]
        exact ih _ (a + 1) b (fun i j z => h i j (by omega))
theorem tu_tg_sm {N : Nat} (c : Nat → Int) (B : Nat → Nat → Nat → Int) : ∀ (es : List (Nat × Nat)) (L : Nat → Nat) (a b : Nat), tu_sm N (fun i => tu_tg (B i) es L a b * c i) = tu_tg (fun a b => tu_sm N (fun i => B i a b * c i)) es L a b := by
  intro es
  induction es with
  | nil => intro L a b; rfl
  | cons e es ih =>
    intro L a b
    by_cases g : L e.1 = L e.2
    · rw [tu_tg_loop g, ← ih L a (b + 1)]
      exact tu_sm_congr (fun i _ => by rw [tu_tg_loop g])
    · by_cases br : tu_fd es L e.1 = tu_fd es L e.2
      · rw [tu_tg_other g br, ← ih L a b, ← ih _ a b, ← tu_sm_add]
        exact tu_sm_congr (fun i _ => by rw [tu_tg_other g br, Int.add_mul])
      · rw [tu_tg_bridge g br, ← ih _ (a + 1) b]
        exact tu_sm_congr (fun i _ => by rw [tu_tg_bridge g br])
def tu_qc : Nat → Nat → Nat → Int
  | a, 0, i => if i = a then 1 else 0
  | a, p + 1, i => tu_qc (a + 1) p i - tu_qc a p i
theorem tu_qc_s (a p i : Nat) : tu_qc a (p + 1) i = tu_qc (a + 1) p i - tu_qc a p i := rfl
def tu_cf (i j : Nat) : Nat → Nat → Int := fun a b => tu_qc a 0 i * tu_qc b 0 j
theorem tu_cf_T {n : Nat} (i j : Nat) (es : List (Nat × Nat)) (L : Nat → Nat) (a b : Nat) (h : tu_ok L) (hb : tu_bd n es) : tu_tg (tu_cf i j) es L a b = tu_T n (fun p q => tu_qc a p i * tu_qc b q j) es L := by
  refine tu_tg_T (W := fun a b p q => tu_qc a p i * tu_qc b q j) ?_ ?_ es L a b h hb
  · intro a b p q
    show tu_qc (a + 1) p i * tu_qc b q j = tu_qc a p i * tu_qc b q j + tu_qc a (p + 1) i * tu_qc b q j
    rw [tu_qc_s, Int.sub_mul]; omega
  · intro a b p q
    show tu_qc a p i * tu_qc (b + 1) q j = tu_qc a p i * tu_qc b q j + tu_qc a p i * tu_qc b (q + 1) j
    rw [tu_qc_s, Int.mul_sub]; omega
theorem tu_vl_T {n : Nat} (x y : Int) (es : List (Nat × Nat)) (L : Nat → Nat) (h : tu_ok L) (hb : tu_bd n es) : tu_tg (fun a b => x ^ a * y ^ b) es L 0 0 = tu_T n (fun p q => (x - 1) ^ p * (y - 1) ^ q) es L := by
  have k := tu_tg_T (n := n) (W := fun a b p q => x ^ a * y ^ b * ((x - 1) ^ p * (y - 1) ^ q)) ?_ ?_ es L 0 0 h hb
  · have e1 : (fun a b => x ^ a * y ^ b) = (fun a b => x ^ a * y ^ b * ((x - 1) ^ 0 * (y - 1) ^ 0)) := by
      funext a b
      rw [Int.pow_zero, Int.pow_zero, Int.mul_one, Int.mul_one]
    rw [e1, k]
    congr 1
    funext p q
    rw [Int.pow_zero, Int.pow_zero, Int.mul_one, Int.one_mul]
  · intro a b p q
    show x ^ (a + 1) * y ^ b * ((x - 1) ^ p * (y - 1) ^ q) = x ^ a * y ^ b * ((x - 1) ^ p * (y - 1) ^ q) + x ^ a * y ^ b * ((x - 1) ^ (p + 1) * (y - 1) ^ q)
    rw [Int.pow_succ, Int.pow_succ]
    generalize x ^ a = A, y ^ b = B, (x - 1) ^ p = C, (y - 1) ^ q = D
    grind
  · intro a b p q
    show x ^ a * y ^ (b + 1) * ((x - 1) ^ p * (y - 1) ^ q) = x ^ a * y ^ b * ((x - 1) ^ p * (y - 1) ^ q) + x ^ a * y ^ b * ((x - 1) ^ p * (y - 1) ^ (q + 1))
    rw [Int.pow_succ, Int.pow_succ]
    generalize x ^ a = A, y ^ b = B, (x - 1) ^ p = C, (y - 1) ^ q = D
    grind
theorem tu_qc_0 (a i : Nat) : tu_qc a 0 i = if i = a then 1 else 0 := rfl
theorem tu_val {n : Nat} (x y : Int) (es : List (Nat × Nat)) (L : Nat → Nat) (h : tu_ok L) (hb : tu_bd n es) (hl : es.length ≤ 8) :
    tu_sm 9 (fun i => tu_sm 9 (fun j => tu_tg (tu_cf i j) es L 0 0 * (x ^ i * y ^ j))) = tu_T n (fun p q => (x - 1) ^ p * (y - 1) ^ q) es L := by
  rw [← tu_vl_T x y es L h hb]
  have a : ∀ i, tu_sm 9 (fun j => tu_tg (tu_cf i j) es L 0 0 * (x ^ i * y ^ j)) = tu_tg (fun a b => tu_sm 9 (fun j => tu_cf i j a b * (x ^ i * y ^ j))) es L 0 0 * 1 := by
    intro i
    rw [Int.mul_one]
    exact tu_tg_sm (fun j => x ^ i * y ^ j) (fun j => tu_cf i j) es L 0 0
  rw [tu_sm_congr (fun i _ => a i)]
  rw [tu_tg_sm (fun _ => 1) (fun i a b => tu_sm 9 (fun j => tu_cf i j a b * (x ^ i * y ^ j))) es L 0 0]
  apply tu_tg_congr
  intro p q hpq
  rw [tu_sm_one (k := p) (by omega)]
  · rw [Int.mul_one, tu_sm_one (k := q) (by omega)]
    · unfold tu_cf
      rw [tu_qc_0, tu_qc_0, if_pos rfl, if_pos rfl]
      omega
    · intro j _ hj
      unfold tu_cf
      rw [tu_qc_0 q j, if_neg hj, Int.mul_zero, Int.zero_mul]
  · intro i _ hi
    rw [Int.mul_one, tu_sm_congr (g := fun _ => 0), tu_sm_zero]
    intro j _
    unfold tu_cf
    rw [tu_qc_0 p i, if_neg hi, Int.zero_mul, Int.zero_mul]
end
section
noncomputable def tu_ct (n : Nat) (P : Nat → Prop) : Int := tu_sm n (fun p => tu_b (P p))
theorem tu_ct_le (n : Nat) (P : Nat → Prop) : tu_ct n P ≤ n := by
  have a := tu_sm_le (n := n) (f := fun p => tu_b (P p)) (g := fun _ => 1) (fun i _ => by rcases tu_b_01 (P i) with h | h <;> omega)
  rw [tu_sm_const] at a
  unfold tu_ct
  omega
theorem tu_ct_ge (n : Nat) (P : Nat → Prop) : 0 ≤ tu_ct n P := by
  have a := tu_sm_le (n := n) (f := fun _ => 0) (g := fun p => tu_b (P p)) (fun i _ => by rcases tu_b_01 (P i) with h | h <;> omega)
  rw [tu_sm_zero] at a
  exact a
theorem tu_b_le {p q : Prop} (h : p → q) : tu_b p ≤ tu_b q := by
  by_cases g : p
  · rw [tu_b_t g, tu_b_t (h g)]; omega
  · rw [tu_b_f g]; rcases tu_b_01 q with r | r <;> omega
theorem tu_ct_lt {n k : Nat} {P Q : Nat → Prop} (h : ∀ p, P p → Q p) (hk : k < n) (hP : ¬ P k) (hQ : Q k) : tu_ct n P < tu_ct n Q :=
  tu_sm_lt (k := k) (fun i _ => tu_b_le (h i)) hk (by rw [tu_b_f hP, tu_b_t hQ]; omega)
theorem tu_ct_all {n : Nat} {P : Nat → Prop} (h : (n : Int) ≤ tu_ct n P) : ∀ p, p < n → P p := by
  intro p hp
  by_cases g : P p
  · exact g
  · have a := tu_ct_lt (n := n) (k := p) (P := P) (Q := fun _ => True) (fun _ _ => trivial) hp g trivial
    have b := tu_ct_le n (fun _ => True)
    omega
def tu_sp (l : Nat → Nat) (e : Nat × Nat) : Nat → Nat := fun p => if p = e.2 then min (l e.1) (l e.2) else if p = e.1 then min (l e.1) (l e.2) else l p
def tu_sr : List (Nat × Nat) → (Nat → Nat) → Nat → Nat
  | [], l => l
  | e :: A, l => tu_sr A (tu_sp l e)
def tu_si (A : List (Nat × Nat)) : Nat → (Nat → Nat) → Nat → Nat
  | 0, l => l
  | r + 1, l => tu_si A r (tu_sr A l)
theorem tu_sp_b {l : Nat → Nat} {e : Nat × Nat} {p : Nat} (h : p = e.1 ∨ p = e.2) : tu_sp l e p = min (l e.1) (l e.2) := by
  unfold tu_sp
  by_cases g : p = e.2
  · exact if_pos g
  · rw [if_neg g]
    rcases h with h | h
    · exact if_pos h
    · exact absurd h g
theorem tu_sp_n {l : Nat → Nat} {e : Nat × Nat} {p : Nat} (h : ¬ (p = e.1 ∨ p = e.2)) : tu_sp l e p = l p := by
  unfold tu_sp
  rw [if_neg (fun z => h (Or.inr z)), if_neg (fun z => h (Or.inl z))]
def tu_Q (K l : Nat → Nat) : Prop := ∀ p, K (l p) = K p
theorem tu_Q_ge {K l : Nat → Nat} (hK : tu_ok K) (h : tu_Q K l) (p : Nat) : K p ≤ l p := by
  have a := (hK (l p)).1
  rw [h p] at a
  exact a
theorem tu_sp_Q {K l : Nat → Nat} {e : Nat × Nat} (h : tu_Q K l) (he : K e.1 = K e.2) : tu_Q K (tu_sp l e) := by
  intro p
  by_cases g : p = e.1 ∨ p = e.2
  · rw [tu_sp_b g]
    have kp : K p = K e.1 := by
      rcases g with g | g
      · rw [g]
      · rw [g, he]
    rcases Nat.le_total (l e.1) (l e.2) with z | z
    · rw [Nat.min_eq_left z, h, kp]
    · rw [Nat.min_eq_right z, h, kp, he]
  · rw [tu_sp_n g]; exact h p
theorem tu_sp_S {K l : Nat → Nat} {e : Nat × Nat} (hK : tu_ok K) (h : tu_Q K l) (he : K e.1 = K e.2) : (∀ p, l p = K p → tu_sp l e p = K p) ∧ (l e.1 = K e.1 ∨ l e.2 = K e.2 → tu_sp l e e.1 = K e.1 ∧ tu_sp l e e.2 = K e.2) := by
  have a := tu_Q_ge hK h e.1
  have b := tu_Q_ge hK h e.2
  have c : l e.1 = K e.1 ∨ l e.2 = K e.2 → tu_sp l e e.1 = K e.1 ∧ tu_sp l e e.2 = K e.2 := by
    intro z
    rw [tu_sp_b (Or.inl rfl), tu_sp_b (Or.inr rfl)]
    omega
  refine ⟨fun p hp => ?_, c⟩
  by_cases g : p = e.1 ∨ p = e.2
  · rcases g with g | g
    · rw [g]; exact (c (Or.inl (by rw [← g]; exact hp))).1
    · rw [g]; exact (c (Or.inr (by rw [← g]; exact hp))).2
  · rw [tu_sp_n g]; exact hp
theorem tu_sr_S {K : Nat → Nat} (hK : tu_ok K) : ∀ (A : List (Nat × Nat)) (l : Nat → Nat), tu_Q K l → tu_re K A → tu_Q K (tu_sr A l) ∧ (∀ p, l p = K p → tu_sr A l p = K p) ∧ (∀ e, e ∈ A → (l e.1 = K e.1 ∨ l e.2 = K e.2) → tu_sr A l e.1 = K e.1 ∧ tu_sr A l e.2 = K e.2) := by
  intro A
  induction A with
  | nil => intro l h _; exact ⟨h, fun p hp => hp, fun e he => nomatch he⟩
  | cons x A ih =>
    intro l h hA
    have hx := hA x List.mem_cons_self
    have s := tu_sp_S hK h hx
    obtain ⟨i1, i2, i3⟩ := ih (tu_sp l x) (tu_sp_Q h hx) (fun e he => hA e (List.mem_cons_of_mem _ he))
    refine ⟨i1, fun p hp => i2 p (s.1 p hp), fun e he hh => ?_⟩
    rcases List.mem_cons.mp he with r | r
    · rw [r] at hh ⊢
      have q := s.2 hh
      exact ⟨i2 _ q.1, i2 _ q.2⟩
    · refine i3 e r ?_
      rcases hh with hh | hh
      · exact Or.inl (s.1 _ hh)
      · exact Or.inr (s.1 _ hh)
theorem tu_sr_grow {n : Nat} {A : List (Nat × Nat)} {l : Nat → Nat} (hA : tu_bd n A) (hQ : tu_Q (tu_fd A (fun p => p)) l) (hm : ∀ p, l (tu_fd A (fun p => p) p) = tu_fd A (fun p => p) p) {p0 : Nat} (h0 : p0 < n) (hp : ¬ l p0 = tu_fd A (fun p => p) p0) :
    tu_ct n (fun p => l p = tu_fd A (fun p => p) p) < tu_ct n (fun p => tu_sr A l p = tu_fd A (fun p => p) p) := by
  have hK : tu_ok (tu_fd A (fun p => p)) := tu_fd_ok tu_id_ok
  have hr : tu_re (tu_fd A (fun p => p)) A := ((tu_fd_rs tu_id_ok).mp (fun p => (hK p).2)).2
  revert hQ hm hp hK hr
  generalize hE : tu_fd A (fun p => p) = K
  intro hQ hm hp hK hr
  obtain ⟨_, s2, s3⟩ := tu_sr_S hK A l hQ hr
  by_cases ex : ∃ e, e ∈ A ∧ ¬ (l e.1 = K e.1 ↔ l e.2 = K e.2)
  · obtain ⟨e, he, hne⟩ := ex
    have hb := hA e he
    by_cases c : l e.1 = K e.1
    · have d : ¬ l e.2 = K e.2 := fun z => hne ⟨fun _ => z, fun _ => c⟩
      exact tu_ct_lt (k := e.2) s2 hb.2 d (s3 e he (Or.inl c)).2
    · have d : l e.2 = K e.2 := by
        by_cases d : l e.2 = K e.2
        · exact d
        · exact absurd ⟨fun z => absurd z c, fun z => absurd z d⟩ hne
      exact tu_ct_lt (k := e.1) s2 hb.1 c (s3 e he (Or.inr d)).1
  · exfalso
    have f1 : tu_rs (fun p => if l p = K p then 1 else 0) (tu_fd A (fun p => p)) := by
      refine (tu_fd_rs tu_id_ok).mpr ⟨fun p => rfl, fun e he => ?_⟩
      have q : l e.1 = K e.1 ↔ l e.2 = K e.2 := by
        by_cases q : l e.1 = K e.1 ↔ l e.2 = K e.2
        · exact q
        · exact absurd ⟨e, he, q⟩ ex
      show (if l e.1 = K e.1 then 1 else 0) = (if l e.2 = K e.2 then 1 else 0)
      by_cases c : l e.1 = K e.1
      · rw [if_pos c, if_pos (q.mp c)]
      · rw [if_neg c, if_neg (fun z => c (q.mpr z))]
    have f2 := f1 p0
    rw [hE] at f2
    dsimp only at f2
    rw [if_neg hp, if_pos (by rw [hm, (hK p0).2])] at f2
    omega
theorem tu_si_grow {n : Nat} {A : List (Nat × Nat)} (hA : tu_bd n A) : ∀ (r : Nat) (l : Nat → Nat), tu_Q (tu_fd A (fun p => p)) l → (∀ p, l (tu_fd A (fun p => p) p) = tu_fd A (fun p => p) p) → ∀ c : Nat, (c : Int) ≤ tu_ct n (fun p => l p = tu_fd A (fun p => p) p) → (n : Int) ≤ c + r → ∀ p, p < n → tu_si A r l p = tu_fd A (fun p => p) p := by
  have hK : tu_ok (tu_fd A (fun p => p)) := tu_fd_ok tu_id_ok
  have hr : tu_re (tu_fd A (fun p => p)) A := ((tu_fd_rs tu_id_ok).mp (fun p => (hK p).2)).2
  intro r
  induction r with
  | zero =>
    intro l hQ hm c hc hn
    exact tu_ct_all (P := fun p => l p = tu_fd A (fun p => p) p) (by omega)
  | succ r ih =>
    intro l hQ hm c hc hn
    obtain ⟨s1, s2, s3⟩ := tu_sr_S hK A l hQ hr
    have hm' : ∀ p, tu_sr A l (tu_fd A (fun p => p) p) = tu_fd A (fun p => p) p := by
      intro p
      have a := s2 (tu_fd A (fun p => p) p) (by rw [hm, (hK p).2])
      rw [a, (hK p).2]
    by_cases ex : ∃ p0, p0 < n ∧ ¬ l p0 = tu_fd A (fun p => p) p0
    · obtain ⟨p0, h0, hp⟩ := ex
      have g := tu_sr_grow hA hQ hm h0 hp
      exact ih (tu_sr A l) s1 hm' (c + 1) (by omega) (by omega)
    · have all : ∀ p, p < n → tu_sr A l p = tu_fd A (fun p => p) p := by
        intro p hp
        apply s2
        by_cases q : l p = tu_fd A (fun p => p) p
        · exact q
        · exact absurd ⟨p, hp, q⟩ ex
      have full : tu_ct n (fun p => tu_sr A l p = tu_fd A (fun p => p) p) = n := by
        unfold tu_ct
        rw [tu_sm_congr (g := fun _ => 1) (fun i hi => tu_b_t (all i hi)), tu_sm_const]
        omega
      exact ih (tu_sr A l) s1 hm' n (by omega) (by omega)
theorem tu_si_fd {n : Nat} {A : List (Nat × Nat)} (hA : tu_bd n A) (hn : n ≤ 6) : ∀ p, p < n → tu_si A 6 (fun p => p) p = tu_fd A (fun p => p) p := by
  have hK : tu_ok (tu_fd A (fun p => p)) := tu_fd_ok tu_id_ok
  refine tu_si_grow hA 6 (fun p => p) (fun p => rfl) (fun p => rfl) 0 ?_ (by omega)
  exact tu_ct_ge _ _
end
section
def tu_ac (os : List (Nat × Nat)) (L : Nat → Nat) : Prop := ∃ h : Nat → Int, ∀ e, e ∈ os → h (L e.2) < h (L e.1)
theorem tu_ac_tl {x : Nat × Nat} {os : List (Nat × Nat)} {L : Nat → Nat} (h : tu_ac (x :: os) L) : tu_ac os L := by
  obtain ⟨g, hg⟩ := h
  exact ⟨g, fun e he => hg e (List.mem_cons_of_mem _ he)⟩
theorem tu_ac_tw {u v : Nat} {os : List (Nat × Nat)} {L : Nat → Nat} {h : Nat → Int} (hh : ∀ e, e ∈ os → h (L e.2) < h (L e.1)) (hne : ¬ L u = L v) (hle : h (L v) ≤ h (L u)) : tu_ac ((u, v) :: os) L := by
  refine ⟨fun q => 2 * h q + (if q = L u then 1 else 0), fun e he => ?_⟩
  rcases List.mem_cons.mp he with r | r
  · subst r
    show 2 * h (L v) + (if L v = L u then 1 else 0) < 2 * h (L u) + (if L u = L u then 1 else 0)
    rw [if_pos rfl, if_neg (fun z => hne z.symm)]
    omega
  · have a := hh e r
    show 2 * h (L e.2) + (if L e.2 = L u then 1 else 0) < 2 * h (L e.1) + (if L e.1 = L u then 1 else 0)
    split <;> split <;> omega
theorem tu_ac_or {u v : Nat} {os : List (Nat × Nat)} {L : Nat → Nat} (hne : ¬ L u = L v) (h : tu_ac os L) : tu_ac ((u, v) :: os) L ∨ tu_ac ((v, u) :: os) L := by
  obtain ⟨g, hg⟩ := h
  by_cases c : g (L v) ≤ g (L u)
  · exact Or.inl (tu_ac_tw hg hne c)
  · exact Or.inr (tu_ac_tw hg (fun z => hne z.symm) (by omega))
theorem tu_ac_jn {u v : Nat} {os : List (Nat × Nat)} {L : Nat → Nat} (hL : tu_ok L) (hne : ¬ L u = L v) (h : tu_ac os (tu_jn L u v)) : tu_ac ((u, v) :: os) L ∧ tu_ac ((v, u) :: os) L := by
  obtain ⟨g, hg⟩ := h
  have c : ∀ p, tu_jn L u v (L p) = tu_jn L u v p := by
    intro p
    unfold tu_jn
    rw [(hL p).2]
  have a : ∀ e, e ∈ os → (fun q => g (tu_jn L u v q)) (L e.2) < (fun q => g (tu_jn L u v q)) (L e.1) := by
    intro e he
    show g (tu_jn L u v (L e.2)) < g (tu_jn L u v (L e.1))
    rw [c, c]
    exact hg e he
  have q : (fun q => g (tu_jn L u v q)) (L u) = (fun q => g (tu_jn L u v q)) (L v) := by
    show g (tu_jn L u v (L u)) = g (tu_jn L u v (L v))
    rw [c, c, tu_jn_u, tu_jn_v]
  exact ⟨tu_ac_tw (h := fun q => g (tu_jn L u v q)) a hne (Int.le_of_eq q.symm), tu_ac_tw (h := fun q => g (tu_jn L u v q)) a (fun z => hne z.symm) (Int.le_of_eq q)⟩
theorem tu_ac_both {u v : Nat} {os : List (Nat × Nat)} {L : Nat → Nat} (h1 : tu_ac ((u, v) :: os) L) (h2 : tu_ac ((v, u) :: os) L) : tu_ac os (tu_jn L u v) := by
  obtain ⟨f, hf⟩ := h1
  obtain ⟨g, hg⟩ := h2
  have a : 0 < g (L v) - g (L u) := by
    have := hg (v, u) List.mem_cons_self
    dsimp only at this
    omega
  have b : 0 < f (L u) - f (L v) := by
    have := hf (u, v) List.mem_cons_self
    dsimp only at this
    omega
  have k : ∀ p, (g (L v) - g (L u)) * f (tu_jn L u v p) + (f (L u) - f (L v)) * g (tu_jn L u v p) = (g (L v) - g (L u)) * f (L p) + (f (L u) - f (L v)) * g (L p) := by
    intro p
    by_cases c : L p = max (L u) (L v)
    · rw [tu_jn_eq c, c]
      rcases Nat.le_total (L u) (L v) with z | z
      · rw [Nat.min_eq_left z, Nat.max_eq_right z]
        grind
      · rw [Nat.min_eq_right z, Nat.max_eq_left z]
        grind
    · rw [tu_jn_ne c]
  refine ⟨fun q => (g (L v) - g (L u)) * f q + (f (L u) - f (L v)) * g q, fun e he => ?_⟩
  show (g (L v) - g (L u)) * f (tu_jn L u v e.2) + (f (L u) - f (L v)) * g (tu_jn L u v e.2) < (g (L v) - g (L u)) * f (tu_jn L u v e.1) + (f (L u) - f (L v)) * g (tu_jn L u v e.1)
  rw [k, k]
  have x := Int.mul_lt_mul_of_pos_left (hf e (List.mem_cons_of_mem _ he)) a
  have y := Int.mul_lt_mul_of_pos_left (hg e (List.mem_cons_of_mem _ he)) b
  omega
theorem tu_ac_sum {u v : Nat} (os : List (Nat × Nat)) {L : Nat → Nat} (hL : tu_ok L) (hne : ¬ L u = L v) : tu_b (tu_ac ((u, v) :: os) L) + tu_b (tu_ac ((v, u) :: os) L) = tu_b (tu_ac os L) + tu_b (tu_ac os (tu_jn L u v)) := by
  by_cases a : tu_ac ((u, v) :: os) L
  · by_cases b : tu_ac ((v, u) :: os) L
    · rw [tu_b_t a, tu_b_t b, tu_b_t (tu_ac_tl a), tu_b_t (tu_ac_both a b)]
    · rw [tu_b_t a, tu_b_f b, tu_b_t (tu_ac_tl a), tu_b_f (fun z => b (tu_ac_jn hL hne z).2)]
  · by_cases b : tu_ac ((v, u) :: os) L
    · rw [tu_b_f a, tu_b_t b, tu_b_t (tu_ac_tl b), tu_b_f (fun z => a (tu_ac_jn hL hne z).1)]; rfl
    · rw [tu_b_f a, tu_b_f b, tu_b_f (fun z => (tu_ac_or hne z).elim a b), tu_b_f (fun z => a (tu_ac_jn hL hne z).1)]
theorem tu_ac_loop {u v : Nat} {os : List (Nat × Nat)} {L : Nat → Nat} (e : L u = L v) : ¬ tu_ac ((u, v) :: os) L := by
  intro ⟨h, hh⟩
  have a := hh (u, v) List.mem_cons_self
  dsimp only at a
  rw [e] at a
  omega
def tu_or : List (Nat × Nat) → Nat → List (Nat × Nat)
  | [], _ => []
  | e :: es, a => (if a % 2 = 1 then (e.2, e.1) else (e.1, e.2)) :: tu_or es (a / 2)
theorem tu_or_0 (e : Nat × Nat) (es : List (Nat × Nat)) (q : Nat) : tu_or (e :: es) (2 * q + 0) = (e.1, e.2) :: tu_or es q := by
  show (if (2 * q + 0) % 2 = 1 then _ else _) :: tu_or es ((2 * q + 0) / 2) = _
  rw [if_neg (by omega), show (2 * q + 0) / 2 = q from by omega]
theorem tu_or_1 (e : Nat × Nat) (es : List (Nat × Nat)) (q : Nat) : tu_or (e :: es) (2 * q + 1) = (e.2, e.1) :: tu_or es q := by
  show (if (2 * q + 1) % 2 = 1 then _ else _) :: tu_or es ((2 * q + 1) / 2) = _
  rw [if_pos (by omega), show (2 * q + 1) / 2 = q from by omega]
theorem tu_or_bd {n : Nat} {es : List (Nat × Nat)} : ∀ (a : Nat), tu_bd n es → tu_bd n (tu_or es a) := by
  induction es with
  | nil => intro a h; exact h
  | cons e es ih =>
    intro a h x hx
    rcases List.mem_cons.mp hx with r | r
    · have b := tu_bd_hd h
      rw [r]
      split
      · exact ⟨b.2, b.1⟩
      · exact b
    · exact ih _ (tu_bd_tl h) x r
noncomputable def tu_ao (es : List (Nat × Nat)) (L : Nat → Nat) : Int := tu_sm (2 ^ es.length) (fun a => tu_b (tu_ac (tu_or es a) L))
theorem tu_ao_s (e : Nat × Nat) (es : List (Nat × Nat)) (L : Nat → Nat) : tu_ao (e :: es) L = tu_sm (2 ^ es.length) (fun q => tu_b (tu_ac ((e.1, e.2) :: tu_or es q) L) + tu_b (tu_ac ((e.2, e.1) :: tu_or es q) L)) := by
  unfold tu_ao
  rw [List.length_cons, Nat.pow_succ, Nat.mul_comm, tu_sm_prod]
  apply tu_sm_congr
  intro q _
  rw [tu_sm_2, tu_or_0, tu_or_1]
theorem tu_ao_ss {n : Nat} : ∀ (es : List (Nat × Nat)) (L : Nat → Nat), tu_ok L → tu_bd n es → tu_ao es L = tu_ss es (fun A => (-1) ^ tu_nl n L A) := by
  intro es
  induction es with
  | nil =>
    intro L _ _
    have a : tu_ac [] L := ⟨fun _ => 0, fun e he => nomatch he⟩
    show 0 + tu_b (tu_ac [] L) = (-1) ^ (0 + tu_fx n L - tu_fx n L)
    rw [tu_b_t a, Nat.zero_add, Nat.sub_self]
    rfl
  | cons e es ih =>
    intro L h hb
    have t := tu_bd_tl hb
    rw [tu_ao_s, tu_ss_s]
    by_cases g : L e.1 = L e.2
    · rw [tu_sm_congr (g := fun _ => 0), tu_sm_zero, ← tu_ss_add, tu_ss_congr (g := fun _ => 0), tu_ss_zero]
      · intro A hA _
        rw [tu_nl_loop h (tu_bd_sub t hA) g, Int.pow_succ]
        omega
      · intro q _
        rw [tu_b_f (tu_ac_loop g), tu_b_f (tu_ac_loop g.symm)]
        rfl
    · rw [tu_sm_congr (fun q _ => tu_ac_sum (tu_or es q) h g), tu_sm_add]
      have i := ih L h t
      have j := ih (tu_jn L e.1 e.2) (tu_jn_ok h) t
      unfold tu_ao at i j
      rw [i, j]
      congr 1
      apply tu_ss_congr
      intro A hA _
      rw [tu_nl_non h (tu_bd_sub t hA) (tu_bd_hd hb) g]
def tu_nc (l : Nat → Nat) (e : Nat × Nat) : Nat → Nat := fun p => if l e.1 ≤ l e.2 ∧ p = e.1 then l e.2 + 1 else l p
def tu_nr : List (Nat × Nat) → (Nat → Nat) → Nat → Nat
  | [], l => l
  | e :: A, l => tu_nr A (tu_nc l e)
def tu_ni (A : List (Nat × Nat)) : Nat → (Nat → Nat) → Nat → Nat
  | 0, l => l
  | r + 1, l => tu_ni A r (tu_nr A l)
theorem tu_nc_c {l : Nat → Nat} {e : Nat × Nat} {p : Nat} (h : l e.1 ≤ l e.2) (hp : p = e.1) : tu_nc l e p = l e.2 + 1 := if_pos ⟨h, hp⟩
theorem tu_nc_n {l : Nat → Nat} {e : Nat × Nat} {p : Nat} (h : ¬ (l e.1 ≤ l e.2 ∧ p = e.1)) : tu_nc l e p = l p := if_neg h
theorem tu_nc_g {g : Nat → Int} {l : Nat → Nat} {e : Nat × Nat} (h : ∀ p, (l p : Int) ≤ g p) (he : g e.2 < g e.1) : ∀ p, (tu_nc l e p : Int) ≤ g p := by
  intro p
  by_cases c : l e.1 ≤ l e.2 ∧ p = e.1
  · rw [tu_nc_c c.1 c.2, c.2]
    have a := h e.2
    omega
  · rw [tu_nc_n c]; exact h p
theorem tu_nr_g {g : Nat → Int} : ∀ (A : List (Nat × Nat)) (l : Nat → Nat), (∀ e, e ∈ A → g e.2 < g e.1) → (∀ p, (l p : Int) ≤ g p) → ∀ p, (tu_nr A l p : Int) ≤ g p := by
  intro A
  induction A with
  | nil => intro l _ h; exact h
  | cons x A ih => intro l hA h; exact ih _ (fun e he => hA e (List.mem_cons_of_mem _ he)) (tu_nc_g h (hA x List.mem_cons_self))
theorem tu_ni_g {g : Nat → Int} {A : List (Nat × Nat)} (hA : ∀ e, e ∈ A → g e.2 < g e.1) : ∀ (r : Nat) (l : Nat → Nat), (∀ p, (l p : Int) ≤ g p) → ∀ p, (tu_ni A r l p : Int) ≤ g p := by
  intro r
  induction r with
  | zero => intro l h; exact h
  | succ r ih => intro l h; exact ih _ (tu_nr_g A l hA h)
theorem tu_nc_I {s : Nat} {l : Nat → Nat} {x e : Nat × Nat} {t : Nat} (ht : t ≤ s + 1) (hx : l x.2 < l x.1 ∨ s ≤ l x.2) (he : l e.2 < l e.1 ∨ t ≤ l e.2) : tu_nc l x e.2 < tu_nc l x e.1 ∨ t ≤ tu_nc l x e.2 := by
  by_cases c : l x.1 ≤ l x.2
  · have a : s ≤ l x.2 := by omega
    by_cases d : e.2 = x.1
    · rw [tu_nc_c c d]
      exact Or.inr (by omega)
    · rw [tu_nc_n (p := e.2) (fun z => d z.2)]
      by_cases f : e.1 = x.1
      · rw [tu_nc_c c f]
        rw [f] at he
        omega
      · rw [tu_nc_n (fun z => f z.2)]; exact he
  · rw [tu_nc_n (fun z => c z.1), tu_nc_n (fun z => c z.1)]; exact he
theorem tu_nc_x {s : Nat} {l : Nat → Nat} {x : Nat × Nat} (hx : l x.2 < l x.1 ∨ s ≤ l x.2) : tu_nc l x x.2 < tu_nc l x x.1 ∨ s + 1 ≤ tu_nc l x x.2 := by
  by_cases c : l x.1 ≤ l x.2
  · have a : s ≤ l x.2 := by omega
    by_cases d : x.2 = x.1
    · rw [tu_nc_c c d]
      exact Or.inr (by omega)
    · rw [tu_nc_n (p := x.2) (fun z => d z.2), tu_nc_c c rfl]
      exact Or.inl (by omega)
  · rw [tu_nc_n (fun z => c z.1), tu_nc_n (fun z => c z.1)]
    exact Or.inl (by omega)
theorem tu_nr_I {s : Nat} : ∀ (A D : List (Nat × Nat)) (l : Nat → Nat), (∀ e, e ∈ D → l e.2 < l e.1 ∨ s + 1 ≤ l e.2) → (∀ e, e ∈ A → l e.2 < l e.1 ∨ s ≤ l e.2) → ∀ e, e ∈ D ∨ e ∈ A → tu_nr A l e.2 < tu_nr A l e.1 ∨ s + 1 ≤ tu_nr A l e.2 := by
  intro A
  induction A with
  | nil =>
    intro D l hD _ e he
    rcases he with he | he
    · exact hD e he
    · exact nomatch he
  | cons x A ih =>
    intro D l hD hA e he
    have hx := hA x List.mem_cons_self
    refine ih (x :: D) (tu_nc l x) ?_ ?_ e ?_
    · intro y hy
      rcases List.mem_cons.mp hy with r | r
      · rw [r]; exact tu_nc_x hx
      · exact tu_nc_I (Nat.le_refl _) hx (hD y r)
    · intro y hy
      exact tu_nc_I (Nat.le_succ _) hx (hA y (List.mem_cons_of_mem _ hy))
    · rcases he with he | he
      · exact Or.inl (List.mem_cons_of_mem _ he)
      · rcases List.mem_cons.mp he with r | r
        · rw [r]; exact Or.inl List.mem_cons_self
        · exact Or.inr r
theorem tu_ni_I {A : List (Nat × Nat)} : ∀ (r s : Nat) (l : Nat → Nat), (∀ e, e ∈ A → l e.2 < l e.1 ∨ s ≤ l e.2) → ∀ e, e ∈ A → tu_ni A r l e.2 < tu_ni A r l e.1 ∨ s + r ≤ tu_ni A r l e.2 := by
  intro r
  induction r with
  | zero => intro s l h; exact h
  | succ r ih =>
    intro s l h e he
    have a := ih (s + 1) (tu_nr A l) (fun e he => tu_nr_I A [] l (fun e he => nomatch he) h e (Or.inr he)) e he
    show tu_ni A r (tu_nr A l) e.2 < tu_ni A r (tu_nr A l) e.1 ∨ s + (r + 1) ≤ tu_ni A r (tu_nr A l) e.2
    omega
theorem tu_ni_ac {n : Nat} {A : List (Nat × Nat)} (hA : tu_bd n A) : (∀ p, p < n → tu_ni A (n + 1) (fun _ => 0) p < n) ↔ tu_ac A (fun p => p) := by
  constructor
  · intro h
    refine ⟨fun p => (tu_ni A (n + 1) (fun _ => 0) p : Int), fun e he => ?_⟩
    have a := tu_ni_I (A := A) (n + 1) 0 (fun _ => 0) (fun e _ => Or.inr (Nat.zero_le _)) e he
    have b := h e.2 (hA e he).2
    show (tu_ni A (n + 1) (fun _ => 0) e.2 : Int) < (tu_ni A (n + 1) (fun _ => 0) e.1 : Int)
    omega
  · intro ⟨h, hh⟩ p hp
    have a := tu_ni_g (g := fun p => tu_ct n (fun q => h q < h p)) (A := A) (fun e he => tu_ct_lt (k := e.2) (fun q hq => Int.lt_trans hq (hh e he)) (hA e he).2 (Int.lt_irrefl _) (hh e he)) (n + 1) (fun _ => 0) (fun p => tu_ct_ge n _) p
    have b := tu_ct_lt (n := n) (k := p) (P := fun q => h q < h p) (Q := fun _ => True) (fun _ _ => trivial) hp (Int.lt_irrefl _) trivial
    have c := tu_ct_le n (fun _ => True)
    omega
theorem tu_nc_bd {l : Nat → Nat} {e : Nat × Nat} {c : Nat} (h : ∀ p, l p ≤ c) : ∀ p, tu_nc l e p ≤ c + 1 := by
  intro p
  have a := h e.2
  have b := h p
  unfold tu_nc
  split <;> omega
end
section
def tu_dg (k c p : Nat) : Nat := c / k ^ p % k
theorem tu_dg_lt {k : Nat} (h : 0 < k) (c p : Nat) : tu_dg k c p < k := Nat.mod_lt _ h
theorem tu_dg_low {k n d c p : Nat} (hk : 0 < k) (hp : p < n) : tu_dg k (k ^ n * d + c) p = tu_dg k c p := by
  unfold tu_dg
  obtain ⟨t, rfl⟩ : ∃ t, n = p + (t + 1) := ⟨n - p - 1, by omega⟩
  rw [Nat.pow_add, Nat.mul_assoc, Nat.mul_add_div (Nat.pow_pos hk), Nat.pow_succ, Nat.mul_comm (k ^ t) k, Nat.mul_assoc, Nat.mul_add_mod]
theorem tu_dg_top {k n d c : Nat} (hd : d < k) (hc : c < k ^ n) : tu_dg k (k ^ n * d + c) n = d := by
  unfold tu_dg
  rw [Nat.mul_add_div (by omega), Nat.div_eq_of_lt hc, Nat.add_zero, Nat.mod_eq_of_lt hd]
theorem tu_col_base {k : Nat} (hk : 0 < k) {L : Nat → Nat} (hL : tu_ok L) : ∀ n, tu_sm (k ^ n) (fun c => tu_b (∀ p, p < n → tu_dg k c (L p) = tu_dg k c p)) = (k : Int) ^ tu_fx n L := by
  intro n
  induction n with
  | zero =>
    show 0 + tu_b (∀ p, p < 0 → _) = 1
    rw [tu_b_t (fun p hp => by omega)]
    rfl
  | succ n ih =>
    have split : ∀ d c, d < k → c < k ^ n → ((∀ p, p < n + 1 → tu_dg k (k ^ n * d + c) (L p) = tu_dg k (k ^ n * d + c) p) ↔ (∀ p, p < n → tu_dg k c (L p) = tu_dg k c p) ∧ (L n = n ∨ tu_dg k c (L n) = d)) := by
      intro d c hd hc
      have low : ∀ p, p < n → (tu_dg k (k ^ n * d + c) (L p) = tu_dg k (k ^ n * d + c) p ↔ tu_dg k c (L p) = tu_dg k c p) := by
        intro p hp
        have a := (hL p).1
        rw [tu_dg_low hk (show L p < n by omega), tu_dg_low hk hp]
      have top : tu_dg k (k ^ n * d + c) (L n) = tu_dg k (k ^ n * d + c) n ↔ (L n = n ∨ tu_dg k c (L n) = d) := by
        by_cases z : L n = n
        · rw [z]
          exact ⟨fun _ => Or.inl rfl, fun _ => rfl⟩
        · have a := (hL n).1
          rw [tu_dg_low hk (show L n < n by omega), tu_dg_top hd hc]
          exact ⟨fun q => Or.inr q, fun q => q.elim (fun r => absurd r z) (fun r => r)⟩
      constructor
      · intro h
        exact ⟨fun p hp => (low p hp).mp (h p (by omega)), top.mp (h n (by omega))⟩
      · intro ⟨h1, h2⟩ p hp
        by_cases e : p = n
        · rw [e]; exact top.mpr h2
        · exact (low p (by omega)).mpr (h1 p (by omega))
    rw [Nat.pow_succ, tu_sm_prod]
    rw [tu_sm_congr (g := fun d => tu_sm (k ^ n) (fun c => tu_b (∀ p, p < n → tu_dg k c (L p) = tu_dg k c p) * tu_b (L n = n ∨ tu_dg k c (L n) = d)))
      (fun d hd => tu_sm_congr (fun c hc => by rw [tu_b_iff (split d c hd hc), tu_b_and]))]
    by_cases z : L n = n
    · rw [tu_sm_congr (g := fun _ => (k : Int) ^ tu_fx n L), tu_sm_const, tu_fx_s, if_pos z, Int.pow_succ, Int.mul_comm]
      intro d _
      rw [← ih]
      exact tu_sm_congr (fun c _ => by rw [tu_b_t (Or.inl z), Int.mul_one])
    · rw [tu_sm_swap, tu_fx_s, if_neg z, Nat.add_zero, ← ih]
      apply tu_sm_congr
      intro c _
      rw [tu_sm_mul, tu_sm_one (k := tu_dg k c (L n)) (tu_dg_lt hk _ _), tu_b_t (Or.inr rfl), Int.mul_one]
      intro i _ hi
      exact tu_b_f (fun q => q.elim z (fun r => hi r.symm))
def tu_pr (f : Nat → Nat) (es : List (Nat × Nat)) : Prop := ∀ e, e ∈ es → ¬ f e.1 = f e.2
theorem tu_pr_s {f : Nat → Nat} {e : Nat × Nat} {es : List (Nat × Nat)} : tu_pr f (e :: es) ↔ ¬ f e.1 = f e.2 ∧ tu_pr f es := by
  constructor
  · intro h
    exact ⟨h e List.mem_cons_self, fun x hx => h x (List.mem_cons_of_mem _ hx)⟩
  · intro ⟨a, b⟩ x hx
    rcases List.mem_cons.mp hx with r | r
    · rw [r]; exact a
    · exact b x r
noncomputable def tu_N (k n : Nat) (es : List (Nat × Nat)) (L : Nat → Nat) : Int := tu_sm (k ^ n) (fun c => tu_b (tu_rs (tu_dg k c) L) * tu_b (tu_pr (tu_dg k c) es))
theorem tu_N_s {k n : Nat} {e : Nat × Nat} {es : List (Nat × Nat)} {L : Nat → Nat} (h : tu_ok L) : tu_N k n (e :: es) L = tu_N k n es L - tu_N k n es (tu_jn L e.1 e.2) := by
  unfold tu_N
  rw [← tu_sm_sub]
  apply tu_sm_congr
  intro c _
  rw [tu_b_iff tu_pr_s, tu_b_iff (tu_jn_rs h), tu_b_and, tu_b_and]
  by_cases q : tu_dg k c e.1 = tu_dg k c e.2
  · rw [tu_b_t q, tu_b_f (p := ¬ tu_dg k c e.1 = tu_dg k c e.2) (fun z => z q)]
    simp
  · rw [tu_b_f q, tu_b_t (p := ¬ tu_dg k c e.1 = tu_dg k c e.2) q]
    simp
theorem tu_N_0 {k n : Nat} (hk : 0 < k) {L : Nat → Nat} (h : tu_ok L) (hh : tu_hi n L) : tu_N k n [] L = (k : Int) ^ tu_fx n L := by
  rw [← tu_col_base hk h n]
  unfold tu_N
  apply tu_sm_congr
  intro c _
  rw [tu_b_t (p := tu_pr (tu_dg k c) []) (fun e he => nomatch he), Int.mul_one]
  apply tu_b_iff
  constructor
  · intro r p _; exact r p
  · intro r p
    by_cases q : p < n
    · exact r p q
    · rw [hh p (by omega)]
theorem tu_N_ss {k n : Nat} (hk : 0 < k) : ∀ (es : List (Nat × Nat)) (L : Nat → Nat), tu_ok L → tu_hi n L → tu_bd n es → tu_N k n es L = tu_ss es (fun A => (-1) ^ A.length * (k : Int) ^ tu_fx n (tu_fd A L)) := by
  intro es
  induction es with
  | nil =>
    intro L h hh _
    rw [tu_N_0 hk h hh]
    show _ = (-1) ^ 0 * (k : Int) ^ tu_fx n L
    rw [Int.pow_zero, Int.one_mul]
  | cons e es ih =>
    intro L h hh hb
    have t := tu_bd_tl hb
    have c := tu_bd_hd hb
    rw [tu_N_s h, tu_ss_s, ih L h hh t, ih (tu_jn L e.1 e.2) (tu_jn_ok h) (tu_jn_hi h hh c.1 c.2) t, Int.sub_eq_add_neg]
    congr 1
    rw [← Int.one_mul (tu_ss es _), ← Int.neg_mul, ← tu_ss_mul]
    apply tu_ss_congr
    intro A _ _
    show -1 * ((-1) ^ A.length * (k : Int) ^ tu_fx n (tu_fd A (tu_jn L e.1 e.2))) = (-1) ^ (A.length + 1) * (k : Int) ^ tu_fx n (tu_fd A (tu_jn L e.1 e.2))
    rw [Int.pow_succ, Int.mul_comm ((-1) ^ A.length) (-1), Int.mul_assoc]
theorem tu_m1 (a j : Nat) : (-1 : Int) ^ (a + 2 * j) = (-1) ^ a := by
  rw [Int.pow_add, Int.pow_mul, show ((-1 : Int) ^ 2) = 1 from rfl, Int.one_pow, Int.mul_one]
theorem tu_m1e {a b j : Nat} (h : a = b + 2 * j) : (-1 : Int) ^ a = (-1) ^ b := by rw [h, tu_m1]
theorem tu_npow (k : Int) (p : Nat) : (-k) ^ p = (-1) ^ p * k ^ p := by
  rw [← Int.mul_pow, Int.neg_mul, Int.one_mul]
theorem tu_col {k n : Nat} (hk : 0 < k) {es : List (Nat × Nat)} (hb : tu_bd n es) :
    tu_N k n es (fun p => p) = (-1) ^ (n - tu_fx n (tu_fd es (fun p => p))) * ((k : Int) ^ tu_fx n (tu_fd es (fun p => p)) * tu_T n (fun p q => ((1 - k) - 1) ^ p * (0 - 1) ^ q) es (fun p => p)) := by
  rw [tu_N_ss hk es _ tu_id_ok (tu_id_hi n) hb]
  unfold tu_T
  rw [← tu_ss_mul, ← tu_ss_mul]
  apply tu_ss_congr
  intro A hA _
  have a := tu_fx_fd (n := n) (A := A) (L := fun p => p) tu_id_ok (tu_bd_sub hb hA)
  have b := tu_fx_sub (n := n) (L := fun p => p) tu_id_ok hA
  unfold tu_nl
  rw [tu_fx_id] at a ⊢
  generalize tu_fx n (tu_fd A (fun p => p)) = cA at a b ⊢
  generalize tu_fx n (tu_fd es (fun p => p)) = cE at b ⊢
  have x1 : ((1 : Int) - k) - 1 = -k := by omega
  have x2 : ((0 : Int) - 1) = -1 := rfl
  rw [x1, x2]
  dsimp only
  rw [tu_npow (k : Int)]
  have s : (-1 : Int) ^ A.length = (-1) ^ (n - cE) * ((-1) ^ (cA - cE) * (-1) ^ (A.length + cA - n)) := by
    rw [← Int.pow_add, ← Int.pow_add]
    exact (tu_m1e (j := cA - cE) (by omega)).symm
  have t : (k : Int) ^ cA = (k : Int) ^ cE * (k : Int) ^ (cA - cE) := by
    rw [← Int.pow_add]
    congr 1
    omega
  rw [s, t]
  generalize (-1 : Int) ^ (n - cE) = u1, (-1 : Int) ^ (cA - cE) = u2, (-1 : Int) ^ (A.length + cA - n) = u3, (k : Int) ^ cE = u4, (k : Int) ^ (cA - cE) = u5
  grind
end
section
noncomputable def tu_cs (n : Nat) (L : Nat → Nat) (B : Nat → Int) (q : Nat) : Int := tu_sm n (fun p => tu_b (L p = q) * B p)
def tu_ba (n k : Nat) (L : Nat → Nat) (B : Nat → Int) : Prop := ∀ q, (k : Int) ∣ tu_cs n L B q
def tu_pt (B : Nat → Int) (e : Nat × Nat) (d : Int) : Nat → Int := fun p => B p + (if p = e.1 then d else 0) - (if p = e.2 then d else 0)
theorem tu_sm_pt {n u : Nat} (hu : u < n) (f : Nat → Int) (d : Int) : tu_sm n (fun p => f p * (if p = u then d else 0)) = f u * d := by
  rw [tu_sm_one (k := u) hu, if_pos rfl]
  intro i _ hi
  rw [if_neg hi, Int.mul_zero]
theorem tu_cs_pt {n : Nat} {L : Nat → Nat} {B : Nat → Int} {e : Nat × Nat} (he : e.1 < n ∧ e.2 < n) (d : Int) (q : Nat) : tu_cs n L (tu_pt B e d) q = tu_cs n L B q + tu_b (L e.1 = q) * d - tu_b (L e.2 = q) * d := by
  unfold tu_cs
  rw [← tu_sm_pt he.1 (fun p => tu_b (L p = q)) d, ← tu_sm_pt he.2 (fun p => tu_b (L p = q)) d, ← tu_sm_add, ← tu_sm_sub]
  apply tu_sm_congr
  intro p _
  unfold tu_pt
  rw [Int.mul_sub, Int.mul_add]
theorem tu_ba_loop {n k : Nat} {L : Nat → Nat} {B : Nat → Int} {e : Nat × Nat} (he : e.1 < n ∧ e.2 < n) (g : L e.1 = L e.2) (d : Int) : tu_ba n k L (tu_pt B e d) ↔ tu_ba n k L B := by
  have a : ∀ q, tu_cs n L (tu_pt B e d) q = tu_cs n L B q := by
    intro q
    rw [tu_cs_pt he, g]
    omega
  unfold tu_ba
  constructor
  · intro h q; rw [← a q]; exact h q
  · intro h q; rw [a q]; exact h q
theorem tu_cs_jn {n : Nat} {L : Nat → Nat} {B : Nat → Int} {u v : Nat} (hne : ¬ L u = L v) (q : Nat) : tu_cs n (tu_jn L u v) B q = if q = max (L u) (L v) then 0 else if q = min (L u) (L v) then tu_cs n L B (L u) + tu_cs n L B (L v) else tu_cs n L B q := by
  unfold tu_cs
  by_cases c : q = max (L u) (L v)
  · rw [if_pos c, tu_sm_congr (g := fun _ => 0), tu_sm_zero]
    intro p _
    rw [tu_b_f, Int.zero_mul]
    intro z
    by_cases d : L p = max (L u) (L v)
    · rw [tu_jn_eq d] at z; omega
    · rw [tu_jn_ne d] at z; omega
  · rw [if_neg c]
    by_cases d : q = min (L u) (L v)
    · rw [if_pos d, ← tu_sm_add]
      apply tu_sm_congr
      intro p _
      rw [← Int.add_mul]
      congr 1
      by_cases x : L p = L u
      · rw [tu_b_t x, tu_b_f (show ¬ L p = L v from fun z => hne (x.symm.trans z)), tu_b_t]
        · rfl
        · by_cases y : L p = max (L u) (L v)
          · rw [tu_jn_eq y]; omega
          · rw [tu_jn_ne y]; omega
      · by_cases y : L p = L v
        · rw [tu_b_f x, tu_b_t y, tu_b_t]
          · rfl
          · by_cases y : L p = max (L u) (L v)
            · rw [tu_jn_eq y]; omega
            · rw [tu_jn_ne y]; omega
        · rw [tu_b_f x, tu_b_f y, tu_b_f]
          · rfl
          · rw [tu_jn_ne (by omega)]; omega
    · rw [if_neg d]
      apply tu_sm_congr
      intro p _
      congr 1
      apply tu_b_iff
      by_cases y : L p = max (L u) (L v)
      · rw [tu_jn_eq y]; omega
      · rw [tu_jn_ne y]
theorem tu_ba_jn {n k : Nat} {L : Nat → Nat} {B : Nat → Int} {u v : Nat} (hne : ¬ L u = L v) : tu_ba n k (tu_jn L u v) B ↔ (∀ q, ¬ q = L u → ¬ q = L v → (k : Int) ∣ tu_cs n L B q) ∧ (k : Int) ∣ tu_cs n L B (L u) + tu_cs n L B (L v) := by
  constructor
  · intro h
    constructor
    · intro q h1 h2
      have a := h q
      rw [tu_cs_jn hne, if_neg (by omega), if_neg (by omega)] at a
      exact a
    · have a := h (min (L u) (L v))
      rw [tu_cs_jn hne, if_neg (by omega), if_pos rfl] at a
      exact a
  · intro ⟨h1, h2⟩ q
    rw [tu_cs_jn hne]
    by_cases c : q = max (L u) (L v)
    · rw [if_pos c]; exact ⟨0, by rw [Int.mul_zero]⟩
    · rw [if_neg c]
      by_cases d : q = min (L u) (L v)
      · rw [if_pos d]; exact h2
      · rw [if_neg d]; exact h1 q (by omega) (by omega)
theorem tu_ba_pt {n k : Nat} {L : Nat → Nat} {B : Nat → Int} {e : Nat × Nat} (he : e.1 < n ∧ e.2 < n) (hne : ¬ L e.1 = L e.2) (d : Int) : tu_ba n k L (tu_pt B e d) ↔ (∀ q, ¬ q = L e.1 → ¬ q = L e.2 → (k : Int) ∣ tu_cs n L B q) ∧ (k : Int) ∣ tu_cs n L B (L e.1) + d ∧ (k : Int) ∣ tu_cs n L B (L e.2) - d := by
  constructor
  · intro h
    refine ⟨fun q h1 h2 => ?_, ?_, ?_⟩
    · have a := h q
      rw [tu_cs_pt he, tu_b_f (fun z => h1 z.symm), tu_b_f (fun z => h2 z.symm)] at a
      rw [show tu_cs n L B q = tu_cs n L B q + 0 * d - 0 * d from by omega]
      exact a
    · have a := h (L e.1)
      rw [tu_cs_pt he, tu_b_t rfl, tu_b_f (fun z => hne z.symm)] at a
      rw [show tu_cs n L B (L e.1) + d = tu_cs n L B (L e.1) + 1 * d - 0 * d from by omega]
      exact a
    · have a := h (L e.2)
      rw [tu_cs_pt he, tu_b_f hne, tu_b_t rfl] at a
      rw [show tu_cs n L B (L e.2) - d = tu_cs n L B (L e.2) + 0 * d - 1 * d from by omega]
      exact a
  · intro ⟨h1, h2, h3⟩ q
    rw [tu_cs_pt he]
    by_cases c : L e.1 = q
    · rw [tu_b_t c, tu_b_f (fun z => hne (c.trans z.symm)), ← c, show tu_cs n L B (L e.1) + 1 * d - 0 * d = tu_cs n L B (L e.1) + d from by omega]
      exact h2
    · by_cases f : L e.2 = q
      · rw [tu_b_f c, tu_b_t f, ← f, show tu_cs n L B (L e.2) + 0 * d - 1 * d = tu_cs n L B (L e.2) - d from by omega]
        exact h3
      · rw [tu_b_f c, tu_b_f f, show tu_cs n L B q + 0 * d - 0 * d = tu_cs n L B q from by omega]
        exact h1 q (fun z => c z.symm) (fun z => f z.symm)
theorem tu_dvd_un {k a b : Int} (hk : 0 < k) (h : k ∣ a - b) (ha : 0 ≤ a) (ha2 : a < k) (hb : 0 ≤ b) (hb2 : b < k) : a = b := by
  have x := Int.emod_emod_of_dvd a (Int.dvd_refl k)
  have y := Int.emod_eq_emod_iff_emod_sub_eq_zero.mpr (Int.emod_eq_zero_of_dvd h)
  rw [Int.emod_eq_of_lt ha ha2, Int.emod_eq_of_lt hb hb2] at y
  exact y
theorem tu_ba_sum {n k : Nat} {L : Nat → Nat} {B : Nat → Int} {e : Nat × Nat} (hk : 0 < k) (he : e.1 < n ∧ e.2 < n) (hne : ¬ L e.1 = L e.2) : tu_sm k (fun d => tu_b (tu_ba n k L (tu_pt B e (d : Int)))) = tu_b (tu_ba n k (tu_jn L e.1 e.2) B) := by
  have hk' : (0 : Int) < k := by omega
  by_cases g : tu_ba n k (tu_jn L e.1 e.2) B
  · rw [tu_b_t g]
    obtain ⟨g1, g2⟩ := (tu_ba_jn hne).mp g
    have m1 := Int.emod_nonneg (-(tu_cs n L B (L e.1))) (show (k : Int) ≠ 0 by omega)
    have m2 := Int.emod_lt_of_pos (-(tu_cs n L B (L e.1))) hk'
    obtain ⟨t, ht⟩ : ∃ t : Nat, (t : Int) = (-(tu_cs n L B (L e.1))) % k := ⟨((-(tu_cs n L B (L e.1))) % k).toNat, Int.toNat_of_nonneg m1⟩
    have d1 : (k : Int) ∣ tu_cs n L B (L e.1) + t := by
      have a := Int.mul_ediv_add_emod (-(tu_cs n L B (L e.1))) k
      rw [← ht] at a
      refine ⟨-(-(tu_cs n L B (L e.1)) / k), ?_⟩
      rw [Int.mul_neg]
      omega
    rw [tu_sm_one (k := t) (by omega), tu_b_t]
    · refine (tu_ba_pt he hne _).mpr ⟨g1, d1, ?_⟩
      have a := Int.dvd_sub g2 d1
      rw [show tu_cs n L B (L e.1) + tu_cs n L B (L e.2) - (tu_cs n L B (L e.1) + t) = tu_cs n L B (L e.2) - t from by omega] at a
      exact a
    · intro i hi hit
      apply tu_b_f
      intro z
      have z2 := ((tu_ba_pt he hne _).mp z).2.1
      have a := Int.dvd_sub z2 d1
      rw [show tu_cs n L B (L e.1) + (i : Int) - (tu_cs n L B (L e.1) + t) = (i : Int) - t from by omega] at a
      have b := tu_dvd_un hk' a (by omega) (by omega) (by omega) (by omega)
      omega
  · rw [tu_b_f g, tu_sm_congr (g := fun _ => 0), tu_sm_zero]
    intro d _
    apply tu_b_f
    intro z
    apply g
    obtain ⟨z1, z2, z3⟩ := (tu_ba_pt he hne _).mp z
    refine (tu_ba_jn hne).mpr ⟨z1, ?_⟩
    have a := Int.dvd_add z2 z3
    rw [show tu_cs n L B (L e.1) + (d : Int) + (tu_cs n L B (L e.2) - d) = tu_cs n L B (L e.1) + tu_cs n L B (L e.2) from by omega] at a
    exact a
def tu_nt (b : Nat) : List (Nat × Nat) → Nat → (Nat → Int) → Nat → Int
  | [], _, B => B
  | e :: es, c, B => tu_nt b es (c / b) (tu_pt B e ((1 + c % b : Nat) : Int))
theorem tu_pt_comm (B : Nat → Int) (e x : Nat × Nat) (d z : Int) : tu_pt (tu_pt B e d) x z = tu_pt (tu_pt B x z) e d := by
  funext p
  unfold tu_pt
  omega
theorem tu_nt_pt {b : Nat} {e : Nat × Nat} {d : Int} : ∀ (es : List (Nat × Nat)) (c : Nat) (B : Nat → Int), tu_nt b es c (tu_pt B e d) = tu_pt (tu_nt b es c B) e d := by
  intro es
  induction es with
  | nil => intro c B; rfl
  | cons x es ih =>
    intro c B
    show tu_nt b es (c / b) (tu_pt (tu_pt B e d) x _) = tu_pt (tu_nt b es (c / b) (tu_pt B x _)) e d
    rw [tu_pt_comm, ih]
noncomputable def tu_fl (n k : Nat) (es : List (Nat × Nat)) (L : Nat → Nat) : Int := tu_sm ((k - 1) ^ es.length) (fun c => tu_b (tu_ba n k L (tu_nt (k - 1) es c (fun _ => 0))))
theorem tu_pt_0 (B : Nat → Int) (e : Nat × Nat) : tu_pt B e 0 = B := by
  funext p
  unfold tu_pt
  split <;> split <;> omega
theorem tu_fl_s {n k : Nat} (hk : 0 < k) (e : Nat × Nat) (es : List (Nat × Nat)) (L : Nat → Nat) : tu_fl n k (e :: es) L = tu_sm ((k - 1) ^ es.length) (fun q => tu_sm k (fun d => tu_b (tu_ba n k L (tu_pt (tu_nt (k - 1) es q (fun _ => 0)) e (d : Int))))) - tu_fl n k es L := by
  unfold tu_fl
  rw [List.length_cons, Nat.pow_succ, Nat.mul_comm, tu_sm_prod, ← tu_sm_sub]
  apply tu_sm_congr
  intro q _
  obtain ⟨j, rfl⟩ : ∃ j, k = j + 1 := ⟨k - 1, by omega⟩
  rw [tu_sm_head j (fun d => tu_b (tu_ba n (j + 1) L (tu_pt (tu_nt (j + 1 - 1) es q (fun _ => 0)) e (d : Int))))]
  rw [show ((0 : Nat) : Int) = 0 from rfl, tu_pt_0]
  rw [Int.add_comm, Int.add_sub_cancel]
  show tu_sm j _ = _
  apply tu_sm_congr
  intro d hd
  show tu_b (tu_ba n (j + 1) L (tu_nt j es ((j * q + d) / j) (tu_pt (fun _ => 0) e ((1 + (j * q + d) % j : Nat) : Int)))) = tu_b (tu_ba n (j + 1) L (tu_pt (tu_nt j es q (fun _ => 0)) e ((d + 1 : Nat) : Int)))
  rw [tu_nt_pt, Nat.mul_add_div (by omega), Nat.div_eq_of_lt hd, Nat.add_zero, Nat.mul_add_mod, Nat.mod_eq_of_lt hd, Nat.add_comm 1 d]
  rfl
theorem tu_cs_0 (n : Nat) (L : Nat → Nat) (q : Nat) : tu_cs n L (fun _ => 0) q = 0 := by
  unfold tu_cs
  rw [tu_sm_congr (g := fun _ => 0) (fun i _ => Int.mul_zero _), tu_sm_zero]
theorem tu_fl_ss {n k : Nat} (hk : 0 < k) : ∀ (es : List (Nat × Nat)) (L : Nat → Nat), tu_ok L → tu_bd n es → tu_fl n k es L = tu_ss es (fun A => (-1) ^ (es.length + A.length) * (k : Int) ^ tu_nl n L A) := by
  intro es
  induction es with
  | nil =>
    intro L _ _
    have a : tu_ba n k L (fun _ => 0) := fun q => ⟨0, by rw [tu_cs_0, Int.mul_zero]⟩
    show 0 + tu_b (tu_ba n k L (fun _ => 0)) = (-1) ^ (0 + 0) * (k : Int) ^ (0 + tu_fx n L - tu_fx n L)
    rw [tu_b_t a, Nat.zero_add (tu_fx n L), Nat.sub_self]
    rfl
  | cons e es ih =>
    intro L h hb
    have t := tu_bd_tl hb
    have he := tu_bd_hd hb
    rw [tu_fl_s hk, tu_ss_s]
    have i := ih L h t
    have key : tu_ss es (fun A => (-1) ^ ((e :: es).length + A.length) * (k : Int) ^ tu_nl n L A) = - tu_fl n k es L := by
      have z : ∀ x : Int, -x = -1 * x := by intro x; omega
      rw [i, z (tu_ss es _), ← tu_ss_mul]
      apply tu_ss_congr
      intro A _ _
      rw [List.length_cons, show es.length + 1 + A.length = es.length + A.length + 1 from by omega, Int.pow_succ]
      rw [Int.mul_comm ((-1) ^ (es.length + A.length)) (-1), Int.mul_assoc]
    rw [key]
    by_cases g : L e.1 = L e.2
    · rw [tu_sm_congr (g := fun q => (k : Int) * tu_b (tu_ba n k L (tu_nt (k - 1) es q (fun _ => 0)))) (fun q _ => by
        rw [tu_sm_congr (fun d _ => tu_b_iff (tu_ba_loop he g (d : Int))), tu_sm_const]), tu_sm_mul]
      have f : tu_ss es (fun A => (-1) ^ ((e :: es).length + (e :: A).length) * (k : Int) ^ tu_nl n L (e :: A)) = (k : Int) * tu_fl n k es L := by
        rw [i, ← tu_ss_mul]
        apply tu_ss_congr
        intro A hA _
        rw [tu_nl_loop h (tu_bd_sub t hA) g, List.length_cons, List.length_cons, tu_m1e (a := es.length + 1 + (A.length + 1)) (b := es.length + A.length) (j := 1) (by omega), Int.pow_succ]
        generalize (-1 : Int) ^ (es.length + A.length) = a1, (k : Int) ^ tu_nl n L A = a2
        grind
      rw [f]
      unfold tu_fl
      omega
    · have j := ih (tu_jn L e.1 e.2) (tu_jn_ok h) t
      rw [tu_sm_congr (fun q _ => tu_ba_sum hk he g)]
      have f : tu_ss es (fun A => (-1) ^ ((e :: es).length + (e :: A).length) * (k : Int) ^ tu_nl n L (e :: A)) = tu_fl n k es (tu_jn L e.1 e.2) := by
        rw [j]
        apply tu_ss_congr
        intro A hA _
        rw [tu_nl_non h (tu_bd_sub t hA) he g, List.length_cons, List.length_cons, tu_m1e (a := es.length + 1 + (A.length + 1)) (b := es.length + A.length) (j := 1) (by omega)]
      rw [f]
      unfold tu_fl
      omega
theorem tu_flow {k n : Nat} (hk : 0 < k) {es : List (Nat × Nat)} (hb : tu_bd n es) :
    tu_fl n k es (fun p => p) = (-1) ^ (es.length + tu_fx n (tu_fd es (fun p => p)) - n) * tu_T n (fun p q => (0 - 1) ^ p * ((1 - k) - 1) ^ q) es (fun p => p) := by
  rw [tu_fl_ss hk es _ tu_id_ok hb]
  have ae := tu_fx_fd (n := n) (A := es) (L := fun p => p) tu_id_ok hb
  unfold tu_T
  rw [← tu_ss_mul]
  apply tu_ss_congr
  intro A hA hl
  have a := tu_fx_fd (n := n) (A := A) (L := fun p => p) tu_id_ok (tu_bd_sub hb hA)
  have b := tu_fx_sub (n := n) (L := fun p => p) tu_id_ok hA
  unfold tu_nl
  rw [tu_fx_id] at a ae ⊢
  generalize tu_fx n (tu_fd A (fun p => p)) = cA at a b ⊢
  generalize tu_fx n (tu_fd es (fun p => p)) = cE at b ae ⊢
  have x1 : ((1 : Int) - k) - 1 = -k := by omega
  have x2 : ((0 : Int) - 1) = -1 := rfl
  rw [x1, x2]
  dsimp only
  rw [tu_npow (k : Int)]
  have s : (-1 : Int) ^ (es.length + A.length) = (-1) ^ (es.length + cE - n) * ((-1) ^ (cA - cE) * (-1) ^ (A.length + cA - n)) := by
    rw [← Int.pow_add, ← Int.pow_add]
    by_cases q : n ≤ cA
    · exact (tu_m1e (j := cA - n) (by omega)).symm
    · exact tu_m1e (j := n - cA) (by omega)
  rw [s]
  generalize (-1 : Int) ^ (es.length + cE - n) = u1, (-1 : Int) ^ (cA - cE) = u2, (-1 : Int) ^ (A.length + cA - n) = u3, (k : Int) ^ (A.length + cA - n) = u5
  grind
end
section
def tu_iI (z : Int) : Int32 := Int32.ofInt z
theorem tu_iI_n (n : Nat) : tu_iI (n : Int) = nI n := Int32.ofInt_eq_ofNat
theorem tu_iI_add (a b : Int) : tu_iI (a + b) = tu_iI a + tu_iI b := Int32.ofInt_add a b
theorem tu_iI_sub (a b : Int) : tu_iI (a - b) = tu_iI a - tu_iI b := Int32.ofInt_sub a b
theorem tu_iI_mul (a b : Int) : tu_iI (a * b) = tu_iI a * tu_iI b := Int32.ofInt_mul a b
theorem tu_iI_neg (a : Int) : tu_iI (-a) = -tu_iI a := Int32.ofInt_neg a
theorem tu_iI_0 : tu_iI 0 = 0 := by decide
theorem tu_iI_1 : tu_iI 1 = 1 := by decide
theorem tu_iI_s (a : Int) : tu_iI a + 1 = tu_iI (a + 1) := by rw [tu_iI_add, tu_iI_1]
def tu_el (F S : Nat → Nat) : Nat → Nat → List (Nat × Nat)
  | _, 0 => []
  | e, d + 1 => (F e, S e) :: tu_el F S (e + 1) d
theorem tu_el_0 (F S : Nat → Nat) (e : Nat) : tu_el F S e 0 = [] := rfl
theorem tu_el_s (F S : Nat → Nat) (e d : Nat) : tu_el F S e (d + 1) = (F e, S e) :: tu_el F S (e + 1) d := rfl
theorem tu_el_len (F S : Nat → Nat) : ∀ d e, (tu_el F S e d).length = d := by
  intro d
  induction d with
  | zero => intro e; rfl
  | succ d ih => intro e; rw [tu_el_s, List.length_cons, ih]
def tu_ar (n : Nat) (F : Nat → Nat) (Fa : Nat → Int32) : Prop := ∀ e, Fa e = nI (F e) ∧ F e < n
theorem tu_el_bd {n : Nat} {F S : Nat → Nat} (hF : ∀ e, F e < n) (hS : ∀ e, S e < n) : ∀ d e, tu_bd n (tu_el F S e d) := by
  intro d
  induction d with
  | zero => intro e x hx; exact nomatch hx
  | succ d ih =>
    intro e x hx
    rcases List.mem_cons.mp hx with r | r
    · rw [r]; exact ⟨hF e, hS e⟩
    · exact ih (e + 1) x r
theorem tu_el_b2 {n : Nat} {F S : Nat → Nat} {Fa Sa : Nat → Int32} (hF : tu_ar n F Fa) (hS : tu_ar n S Sa) (e d : Nat) : tu_bd n (tu_el F S e d) := tu_el_bd (fun e => (hF e).2) (fun e => (hS e).2) d e
theorem tu_ar_at {n i : Nat} {F : Nat → Nat} {Fa : Nat → Int32} (h : tu_ar n F Fa) (hi : i < 100) : Fa (nI i).toNatClampNeg = nI (F i) := by
  rw [nI_clamp (by omega)]
  exact (h i).1
theorem tu_sl : ∀ n, n < 32 → ((nI n &&& 31).toBitVec.smod 32).toNat = n := by decide +kernel
theorem tu_bit {a i : Nat} (ha : a < 2 ^ 31) (hi : i < 32) : ((nI a >>> (nI i &&& 31)) &&& 1) = nI (a / 2 ^ i % 2) := by
  rw [pk_shrN ha _ i (tu_sl i hi), pk_andN (Nat.lt_of_le_of_lt (Nat.div_le_self _ _) (by omega)) 1 (by decide)]
theorem tu_m3 (p : Nat) : (3 : Int32) * nI p = nI (3 * p) := pk_mul 3 p
theorem tu_p8 (p : Nat) : 2 ^ (3 * p) = 8 ^ p := Nat.pow_mul 2 3 p
theorem tu_po {c p : Nat} (hc : c < 2 ^ 31) (hp : p < 10) : ((nI c >>> ((3 * nI p) &&& 31)) &&& 7) = nI (tu_dg 8 c p) := by
  rw [tu_m3, pk_shrN hc _ (3 * p) (tu_sl _ (by omega)), pk_andN (Nat.lt_of_le_of_lt (Nat.div_le_self _ _) (by omega)) 3 (by decide), tu_p8]
  rfl
theorem tu_nor (a b : Nat) : nI a ||| nI b = nI (a ||| b) := by
  apply Int32.toBitVec_inj.1
  show BitVec.ofNat 32 a ||| BitVec.ofNat 32 b = BitVec.ofNat 32 (a ||| b)
  rw [BitVec.ofNat_or]
theorem tu_so {r x p : Nat} (hr : r < 8 ^ p) (hx : x < 8) (hp : p < 7) : nI r ||| (nI x <<< ((3 * nI p) &&& 31)) = nI (8 ^ p * x + r) := by
  have b : 8 ^ p ≤ 8 ^ 6 := Nat.pow_le_pow_right (by omega) (by omega)
  have c : x * 8 ^ p ≤ 7 * 8 ^ 6 := Nat.mul_le_mul (by omega) b
  rw [tu_m3, pk_shlN _ (3 * p) (tu_sl _ (by omega)) (by rw [tu_p8]; omega), tu_nor]
  rw [← tu_p8] at hr ⊢
  rw [Nat.or_comm, Nat.mul_comm, ← Nat.two_pow_add_eq_or_of_lt hr]
def tu_pk : Nat → (Nat → Nat) → Nat
  | 0, _ => 0
  | n + 1, L => 8 ^ n * L n + tu_pk n L
theorem tu_pk_s (n : Nat) (L : Nat → Nat) : tu_pk (n + 1) L = 8 ^ n * L n + tu_pk n L := rfl
theorem tu_pk_lt {L : Nat → Nat} : ∀ n, (∀ p, p < n → L p < 8) → tu_pk n L < 8 ^ n := by
  intro n
  induction n with
  | zero => intro _; exact Nat.zero_lt_one
  | succ n ih =>
    intro h
    have a := ih (fun p hp => h p (by omega))
    have b := h n (by omega)
    have c : 8 ^ n * L n ≤ 8 ^ n * 7 := Nat.mul_le_mul_left _ (by omega)
    rw [tu_pk_s, Nat.pow_succ]
    omega
theorem tu_pk_get {L : Nat → Nat} : ∀ n, (∀ p, p < n → L p < 8) → ∀ p, p < n → tu_dg 8 (tu_pk n L) p = L p := by
  intro n
  induction n with
  | zero => intro _ p hp; omega
  | succ n ih =>
    intro h p hp
    rw [tu_pk_s]
    by_cases e : p = n
    · rw [e, tu_dg_top (h n (by omega)) (tu_pk_lt n (fun p hp => h p (by omega)))]
    · rw [tu_dg_low (by omega) (by omega), ih (fun p hp => h p (by omega)) p (by omega)]
theorem tu_pk_b {n : Nat} {L : Nat → Nat} (hn : n ≤ 6) (h : ∀ p, p < n → L p < 8) : tu_pk n L < 2 ^ 31 := by
  have a := tu_pk_lt n h
  have b : 8 ^ n ≤ 8 ^ 6 := Nat.pow_le_pow_right (by omega) hn
  omega
theorem tu_ok8 {n : Nat} {L : Nat → Nat} (hn : n ≤ 6) (h : tu_ok L) : ∀ p, p < n → L p < 8 := by
  intro p hp
  have := (h p).1
  omega
theorem tu_pp {n p : Nat} {L : Nat → Nat} (hn : n ≤ 6) (h : ∀ p, p < n → L p < 8) (hp : p < n) : ((nI (tu_pk n L) >>> ((3 * nI p) &&& 31)) &&& 7) = nI (L p) := by
  rw [tu_po (tu_pk_b hn h) (by omega), tu_pk_get n h p hp]
theorem tu_all : ∀ m, m < 9 → ((1 : Int32) <<< (nI m &&& 31)) - 1 = nI (2 ^ m - 1) := by decide +kernel
theorem tu_rest : ∀ m, m < 9 → ∀ e, e < 9 → e < m → nI (2 ^ m - 2 ^ e) &&& (((1 : Int32) <<< (nI e &&& 31)) ^^^ (-1)) = nI (2 ^ m - 2 ^ (e + 1)) := by decide +kernel
theorem tu_mb : ∀ m, m < 9 → ∀ e, e < 9 → ∀ i, i < 9 → e ≤ m → i < m → (2 ^ m - 2 ^ e) / 2 ^ i % 2 = if e ≤ i then 1 else 0 := by decide +kernel
theorem tu_sub_mask {F S : Nat → Nat} {m e : Nat} (hm : m ≤ 8) (he : e ≤ m) : ∀ d i, i + d = m → tu_sub (tu_el F S i d) ((2 ^ m - 2 ^ e) / 2 ^ i) = if i ≤ e then tu_el F S e (m - e) else tu_el F S i d := by
  intro d
  induction d with
  | zero =>
    intro i hi
    by_cases c : i ≤ e
    · rw [if_pos c, show m - e = 0 from by omega]; rfl
    · rw [if_neg c]; rfl
  | succ d ih =>
    intro i hi
    have b := tu_mb m (by omega) e (by omega) i (by omega) he (by omega)
    have j := ih (i + 1) (by omega)
    rw [tu_el_s, tu_sub, Nat.div_div_eq_div_mul, ← Nat.pow_succ, b]
    rw [j]
    by_cases c : e ≤ i
    · rw [if_pos c, if_pos rfl, if_neg (show ¬ i + 1 ≤ e by omega)]
      by_cases g : i = e
      · rw [if_pos (by omega), g, show m - e = d + 1 from by omega, tu_el_s]
      · rw [if_neg (by omega)]
    · rw [if_neg c, if_neg (by omega), if_pos (by omega), if_pos (by omega)]
theorem tu_sub_all {F S : Nat → Nat} {m e : Nat} (hm : m ≤ 8) (he : e ≤ m) : tu_sub (tu_el F S 0 m) (2 ^ m - 2 ^ e) = tu_el F S e (m - e) := by
  have a := tu_sub_mask (F := F) (S := S) hm he m 0 (by omega)
  rw [Nat.pow_zero, Nat.div_one, if_pos (Nat.zero_le _)] at a
  exact a
theorem tu_b8 : ∀ j, j < 128 → (nI j).toInt8.toInt32 = nI j := by decide +kernel
theorem tu_b16 : ∀ j, j < 256 → (nI j).toInt16.toInt32 = nI j := by decide +kernel
theorem tu_nb {j : Nat} (h : j < 128) : vp_nar .byte (nI j).toInt8.toInt32 = nI j := by rw [pk_vb, tu_b8 j h]
theorem tu_nb0 {j : Nat} (h : j < 128) : vp_nar .byte (nI j) = nI j := by rw [vp_nar_byte, tu_b8 j h]
theorem tu_ns {j : Nat} (h : j < 256) : vp_nar .short (nI j).toInt16.toInt32 = nI j := by rw [pk_vs, tu_b16 j h]
theorem tu_p2 {m : Nat} (h : m ≤ 8) : 1 ≤ 2 ^ m ∧ 2 ^ m ≤ 256 := ⟨Nat.one_le_two_pow, Nat.pow_le_pow_right (n := 2) (by omega) h⟩
end
section
section
variable {rd wt : Int32} {Fa Sa tm we wp wx wy : Nat → Int32} {n m : Nat} {F S : Nat → Nat}
theorem xw_start_l {post : Int32 → Prop} {fe : Int32} (hn : n ≤ 6) (h : post (nI (tu_pk n (fun p => p)))) : ∀ d i, i + d = n → wX_startPoints_4 post (nI n) fe rd wt Fa Sa tm we wp wx wy (d + 1) (nI (tu_pk i (fun p => p))) (nI i) := by
  intro d
  induction d with
  | zero =>
    intro i hi
    have e : i = n := by omega
    subst e
    exact br_t (nI_le (Nat.le_refl _) (by omega)) h
  | succ d ih =>
    intro i hi
    refine br_f (nI_ge (by omega) (by omega)) (nm_r (e' := nI (tu_pk (i + 1) (fun p => p))) ?_ (nm_r (nI_1 i) (ih (i + 1) (by omega))))
    exact tu_so (tu_pk_lt i (fun p hp => by omega)) (by omega) (by omega)
theorem xw_start {post : Int32 → Prop} {fe : Int32} (hn : n ≤ 6) (h : post (nI (tu_pk n (fun p => p)))) : wpX_startPoints post (nI n, fe, rd, wt, Fa, Sa, tm, we, wp, wx, wy) :=
  ⟨n + 1, xw_start_l hn h n 0 (by omega)⟩
theorem xw_point {post : Int32 → Prop} {u : SX} {L : Nat → Nat} {p : Nat} (hn : n ≤ 6) (hL : tu_ok L) (hp : p < n) (h : post (nI (L p))) : wpX_pointOf post u (nI (tu_pk n L)) (nI p) := by
  obtain ⟨a1, a2, a3, a4, a5, a6, a7, a8, a9, a10, a11⟩ := u
  show post _
  rw [tu_pp hn (tu_ok8 hn hL) hp]
  exact h
theorem xw_join_l {post : Int32 → Prop} {fe : Int32} {L J : Nat → Nat} {lo hi : Nat} (hn : n ≤ 6) (hL : ∀ p, p < n → L p < 8) (hlo : lo < 8) (hhi : hi < 8) (hJ : ∀ p, J p = if L p = hi then lo else L p) (h : post (nI (tu_pk n J))) : ∀ d i, i + d = n → wX_joined_30 post (nI (tu_pk n L)) (nI lo) (nI hi) (nI n) fe rd wt Fa Sa tm we wp wx wy (d + 1) (nI (tu_pk i J)) (nI i) := by
  have hJ8 : ∀ p, p < n → J p < 8 := by
    intro p hp
    rw [hJ]
    have := hL p hp
    split <;> omega
  intro d
  induction d with
  | zero =>
    intro i hi
    have e : i = n := by omega
    subst e
    exact br_t (nI_le (Nat.le_refl _) (by omega)) h
  | succ d ih =>
    intro i hi'
    have go : ∀ z, z = nI (J i) → wX_joined_66 post (wX_joined_30 post (nI (tu_pk n L)) (nI lo) (nI hi) (nI n) fe rd wt Fa Sa tm we wp wx wy (d + 1)) (nI (tu_pk n L)) (nI lo) (nI hi) (nI i) z (nI (tu_pk i J)) (nI n) fe rd wt Fa Sa tm we wp wx wy := by
      intro z hz
      rw [hz]
      refine nm_r (e' := nI (tu_pk (i + 1) J)) ?_ (nm_r (nI_1 i) (ih (i + 1) (by omega)))
      exact tu_so (tu_pk_lt i (fun p hp => hJ8 p (by omega))) (hJ8 i (by omega)) (by omega)
    refine br_f (nI_ge (by omega) (by omega)) (nm_r (tu_pp hn hL (by omega)) ?_)
    have a := hL i (by omega)
    refine pk_eq (L i) hi (fun e => go _ ?_) (fun e => go _ ?_)
    · rw [hJ, if_pos e]
    · rw [hJ, if_neg e]
theorem xw_join {post : Int32 → Prop} {fe : Int32} {L : Nat → Nat} {u v : Nat} (hn : n ≤ 6) (hL : tu_ok L) (hu : u < n) (hv : v < n) (h : post (nI (tu_pk n (tu_jn L u v)))) : wpX_joined post (nI n, fe, rd, wt, Fa, Sa, tm, we, wp, wx, wy) (nI (tu_pk n L)) (nI (L u)) (nI (L v)) := by
  have a := tu_ok8 hn hL u hu
  have b := tu_ok8 hn hL v hv
  have key : ∀ lo hi, lo = min (L u) (L v) → hi = max (L u) (L v) → ∃ k, wX_joined_30 post (nI (tu_pk n L)) (nI lo) (nI hi) (nI n) fe rd wt Fa Sa tm we wp wx wy k 0 0 := by
    intro lo hi e1 e2
    refine ⟨n + 1, xw_join_l (J := tu_jn L u v) hn (tu_ok8 hn hL) (by omega) (by omega) (fun p => ?_) h n 0 (by omega)⟩
    rw [e1, e2]
    rfl
  refine pk_le (L v) (L u) (fun c => ?_) (fun c => ?_)
  · exact br_t (nI_le c (by omega)) (key (L v) (L u) (by omega) (by omega))
  · exact br_f (nI_ge c (by omega)) (key (L u) (L v) (by omega) (by omega))
theorem xw_draw_l {post : Int32 → Prop} {a : Nat} (hn : n ≤ 6) (hm : m ≤ 8) (ha : a < 2 ^ 31) (hF : tu_ar n F Fa) (hS : tu_ar n S Sa) : ∀ d i L, i + d = m → tu_ok L → post (nI (tu_pk n (tu_fd (tu_sub (tu_el F S i d) (a / 2 ^ i)) L))) → wX_drawnTogether_5 post (nI a) (nI n) (nI m) rd wt Fa Sa tm we wp wx wy (d + 1) (nI (tu_pk n L)) (nI i) := by
  intro d
  induction d with
  | zero =>
    intro i L hi hL h
    exact br_t (nI_le (by omega) (by omega)) h
  | succ d ih =>
    intro i L hi hL h
    have eF := tu_ar_at hF (show i < 100 by omega)
    have eS := tu_ar_at hS (show i < 100 by omega)
    have bF := (hF i).2
    have bS := (hS i).2
    refine br_f (nI_ge (by omega) (by omega)) ?_
    rw [tu_el_s, tu_sub, Nat.div_div_eq_div_mul, ← Nat.pow_succ] at h
    rw [tu_bit ha (by omega), eF, eS]
    refine pk_eq (x := nI (a / 2 ^ i % 2)) (y := 0) (a / 2 ^ i % 2) 0 (fun c => ?_) (fun c => ?_)
    · rw [if_neg (by omega)] at h
      exact nm_r (nI_1 i) (ih (i + 1) L (by omega) hL h)
    · rw [if_pos (by omega)] at h
      refine ⟨vp_in_nI (by omega) (by omega), xw_point hn hL bF ⟨vp_in_nI (by omega) (by omega), xw_point hn hL bS ?_⟩⟩
      have l1 := tu_ok8 hn hL _ bF
      have l2 := tu_ok8 hn hL _ bS
      refine pk_eq (L (F i)) (L (S i)) (fun c => ?_) (fun c => ?_)
      · rw [tu_fd, tu_jn_same c] at h
        exact nm_r (nI_1 i) (ih (i + 1) L (by omega) hL h)
      · exact xw_join hn hL bF bS (nm_r (nI_1 i) (ih (i + 1) _ (by omega) (tu_jn_ok hL) h))
theorem xw_draw {post : Int32 → Prop} {a : Nat} {L : Nat → Nat} (hn : n ≤ 6) (hm : m ≤ 8) (ha : a < 2 ^ 31) (hF : tu_ar n F Fa) (hS : tu_ar n S Sa) (hL : tu_ok L) (h : post (nI (tu_pk n (tu_fd (tu_sub (tu_el F S 0 m) a) L)))) : wpX_drawnTogether post (nI n, nI m, rd, wt, Fa, Sa, tm, we, wp, wx, wy) (nI a) (nI (tu_pk n L)) :=
  ⟨m + 1, xw_draw_l hn hm ha hF hS m 0 L (by omega) hL (by rw [Nat.pow_zero, Nat.div_one]; exact h)⟩
theorem xw_parts_l {post : Int32 → Prop} {fe : Int32} {L : Nat → Nat} (hn : n ≤ 6) (hL : tu_ok L) (h : post (nI (tu_fx n L))) : ∀ d i, i + d = n → wX_parts_23 post (nI (tu_pk n L)) (nI n) fe rd wt Fa Sa tm we wp wx wy (d + 1) (nI (tu_fx i L)) (nI i) := by
  intro d
  induction d with
  | zero =>
    intro i hi
    have e : i = n := by omega
    subst e
    exact br_t (nI_le (Nat.le_refl _) (by omega)) h
  | succ d ih =>
    intro i hi
    have j := ih (i + 1) (by omega)
    rw [tu_fx_s] at j
    refine br_f (nI_ge (by omega) (by omega)) ?_
    rw [tu_pp hn (tu_ok8 hn hL) (show i < n by omega)]
    have l1 := tu_ok8 hn hL i (by omega)
    refine pk_eq (L i) i (fun c => ?_) (fun c => ?_)
    · rw [if_pos c] at j
      exact nm_r (nI_1 _) (nm_r (nI_1 i) j)
    · rw [if_neg c] at j
      exact nm_r (nI_1 i) j
theorem xw_parts {post : Int32 → Prop} (hn : n ≤ 6) (hm : m ≤ 8) (hF : tu_ar n F Fa) (hS : tu_ar n S Sa) (h : post (nI (tu_fx n (tu_fd (tu_el F S 0 m) (fun p => p))))) : wpX_parts post (nI n, nI m, rd, wt, Fa, Sa, tm, we, wp, wx, wy) := by
  have b := tu_p2 hm
  unfold wpX_parts
  dsimp only
  refine xw_start hn ?_
  rw [tu_all m (by omega)]
  refine xw_draw hn hm (by omega) hF hS tu_id_ok ?_
  have e := tu_sub_all (F := F) (S := S) (e := 0) hm (Nat.zero_le _)
  rw [Nat.pow_zero, Nat.sub_zero] at e
  rw [e]
  exact ⟨n + 1, xw_parts_l hn (tu_fd_ok tu_id_ok) h n 0 (by omega)⟩
end
end
section
theorem tu_mk {m : Nat} (h : m ≤ 8) (e : Nat) : 2 ^ m - 2 ^ e < 256 := by
  have a := tu_p2 h
  have b : 1 ≤ 2 ^ e := Nat.one_le_two_pow
  omega
theorem tu_mk2 {m : Nat} (h : m ≤ 8) (e : Nat) : 2 ^ m - 2 ^ e < 2 ^ 31 := Nat.lt_trans (tu_mk h e) (by decide)
def tu_gd (F S : Nat → Nat) (m : Nat) (tm : Nat → Int32) : Prop := ∀ i j, i < 9 → j < 9 → tm (9 * i + j) = tu_iI (tu_tg (tu_cf i j) (tu_el F S 0 m) (fun p => p) 0 0)
section
variable {rd wt : Int32} {Fa Sa tm we wp wx wy : Nat → Int32} {n m : Nat} {F S : Nat → Nat}
theorem xw_push {post : SX → Prop} {w M a b : Nat} {fn fe P : Int32} (hw : w < 12) (hM : M < 256) (ha : a < 128) (hb : b < 128) (h : post (fn, fe, rd, nI (w + 1), Fa, Sa, tm, upd we w (nI M), upd wp w P, upd wx w (nI a), upd wy w (nI b))) : wpX_push post (fn, fe, rd, nI w, Fa, Sa, tm, we, wp, wx, wy) (nI M) P (nI a) (nI b) := by
  have i := vp_in_nI hw (by omega)
  unfold wpX_push
  dsimp only
  rw [nI_clamp (show w < 2 ^ 31 by omega), tu_ns hM, tu_nb ha, tu_nb hb]
  exact ⟨i, nm_e ⟨i, nm_e ⟨i, nm_e ⟨i, nm_e (nm_r (nI_1 w) h)⟩⟩⟩⟩
theorem xw_work0 {post : SX → Prop} {a b : Nat} {fn fe P : Int32} (ha : a < 9) (hb : b < 9) (h : post (fn, fe, rd, wt, Fa, Sa, upd tm (9 * a + b) (tm (9 * a + b) + 1), we, wp, wx, wy)) : wpX_workOff post (fn, fe, rd, wt, Fa, Sa, tm, we, wp, wx, wy) 0 P (nI a) (nI b) := by
  unfold wpX_workOff
  dsimp only
  have e : (9 : Int32) * nI a + nI b = nI (9 * a + b) := by rw [show (9 : Int32) = nI 9 from rfl, pk_mul, nI_add]
  have i : vp_in (nI (9 * a + b)) 81 := vp_in_nI (by omega) (by omega)
  rw [e, nI_clamp (by omega)]
  exact br_t rfl ⟨i, i, nm_e h⟩
theorem xw_work {post : SX → Prop} {e a b w : Nat} {L : Nat → Nat} (hn : n ≤ 6) (hm : m ≤ 8) (hF : tu_ar n F Fa) (hS : tu_ar n S Sa) (hL : tu_ok L) (he : e < m) (hw : w + 1 < 12) (ha : a + 1 < 128) (hb : b + 1 < 128)
    (h1 : L (F e) = L (S e) → post (nI n, nI m, rd, nI (w + 1), Fa, Sa, tm, upd we w (nI (2 ^ m - 2 ^ (e + 1))), upd wp w (nI (tu_pk n L)), upd wx w (nI a), upd wy w (nI (b + 1))))
    (h2 : ¬ L (F e) = L (S e) → tu_fd (tu_el F S (e + 1) (m - (e + 1))) L (F e) = tu_fd (tu_el F S (e + 1) (m - (e + 1))) L (S e) → post (nI n, nI m, rd, nI (w + 1 + 1), Fa, Sa, tm, upd (upd we w (nI (2 ^ m - 2 ^ (e + 1)))) (w + 1) (nI (2 ^ m - 2 ^ (e + 1))), upd (upd wp w (nI (tu_pk n L))) (w + 1) (nI (tu_pk n (tu_jn L (F e) (S e)))), upd (upd wx w (nI a)) (w + 1) (nI a), upd (upd wy w (nI b)) (w + 1) (nI b)))
    (h3 : ¬ L (F e) = L (S e) → ¬ tu_fd (tu_el F S (e + 1) (m - (e + 1))) L (F e) = tu_fd (tu_el F S (e + 1) (m - (e + 1))) L (S e) → post (nI n, nI m, rd, nI (w + 1), Fa, Sa, tm, upd we w (nI (2 ^ m - 2 ^ (e + 1))), upd wp w (nI (tu_pk n (tu_jn L (F e) (S e)))), upd wx w (nI (a + 1)), upd wy w (nI b))) :
    wpX_workOff post (nI n, nI m, rd, nI w, Fa, Sa, tm, we, wp, wx, wy) (nI (2 ^ m - 2 ^ e)) (nI (tu_pk n L)) (nI a) (nI b) := by
  have p1 := tu_p2 hm
  have p2 : 2 ^ e < 2 ^ m := Nat.pow_lt_pow_right (by omega) he
  have lp : ∀ d i, i + d = e → wX_workOff_24 post (nI (2 ^ m - 2 ^ e)) (nI (tu_pk n L)) (nI a) (nI b) (nI n) (nI m) rd (nI w) Fa Sa tm we wp wx wy (d + 1) (nI i) := by
    intro d
    induction d with
    | succ d ih =>
      intro i hi
      have q := tu_mb m (by omega) e (by omega) i (by omega) (by omega) (by omega)
      rw [if_neg (by omega)] at q
      refine br_t ?_ (nm_r (nI_1 i) (ih (i + 1) (by omega)))
      rw [tu_bit (tu_mk2 hm _) (by omega), q]
      rfl
    | zero =>
      intro i hi
      have ie : i = e := by omega
      subst ie
      have q := tu_mb m (by omega) i (by omega) i (by omega) (by omega) (by omega)
      rw [if_pos (Nat.le_refl _)] at q
      have eF := tu_ar_at hF (show i < 100 by omega)
      have eS := tu_ar_at hS (show i < 100 by omega)
      have bF := (hF i).2
      have bS := (hS i).2
      have vi : vp_in (nI i) 8 := vp_in_nI (by omega) (by omega)
      have l1 := tu_ok8 hn hL _ bF
      have l2 := tu_ok8 hn hL _ bS
      refine br_f ?_ (nm_r (tu_rest m (by omega) i (by omega) he) ?_)
      · rw [tu_bit (tu_mk2 hm _) (by omega), q]
        decide
      · rw [eF, eS]
        refine ⟨vi, xw_point hn hL bF ⟨vi, xw_point hn hL bS ?_⟩⟩
        refine pk_eq (L (F i)) (L (S i)) (fun c => ?_) (fun c => ?_)
        · rw [nI_1 b]
          exact xw_push (by omega) (tu_mk hm _) (by omega) (by omega) (h1 c)
        · have ok2 : tu_ok (tu_fd (tu_el F S (i + 1) (m - (i + 1))) L) := tu_fd_ok hL
          refine xw_join hn hL bF bS (xw_draw hn hm (tu_mk2 hm _) hF hS hL ?_)
          rw [tu_sub_all hm (show i + 1 ≤ m by omega)]
          refine ⟨vi, xw_point hn ok2 bF ⟨vi, xw_point hn ok2 bS ?_⟩⟩
          have l3 := tu_ok8 hn ok2 _ bF
          have l4 := tu_ok8 hn ok2 _ bS
          refine pk_eq (tu_fd (tu_el F S (i + 1) (m - (i + 1))) L (F i)) (tu_fd (tu_el F S (i + 1) (m - (i + 1))) L (S i)) (fun g => ?_) (fun g => ?_)
          · exact xw_push (by omega) (tu_mk hm _) (by omega) (by omega) (xw_push (by omega) (tu_mk hm _) (by omega) (by omega) (h2 c g))
          · rw [nI_1 a]
            exact xw_push (by omega) (tu_mk hm _) (by omega) (by omega) (h3 c g)
  exact br_f (nI_ne0 (by omega) (tu_mk2 hm _)) ⟨e + 1, lp e 0 (by omega)⟩
theorem xw_cf0 {i j a b : Nat} : tu_cf i j a b = if i = a ∧ j = b then 1 else 0 := by
  unfold tu_cf
  rw [tu_qc_0, tu_qc_0]
  by_cases h : i = a
  · by_cases g : j = b
    · rw [if_pos h, if_pos g, if_pos ⟨h, g⟩]; rfl
    · rw [if_pos h, if_neg g, if_neg (fun z => g z.2)]; rfl
  · rw [if_neg h, if_neg (c := i = a ∧ j = b) (fun z => h z.1), Int.zero_mul]
theorem xw_find_l {post : SX → Prop} (hn : n ≤ 6) (hm : m ≤ 8) (hF : tu_ar n F Fa) (hS : tu_ar n S Sa) : ∀ d e L, e + d = m → tu_ok L → ∃ c, ∀ N w a b tm we wp wx wy, w ≤ e → a + b ≤ e → we w = nI (2 ^ m - 2 ^ e) → wp w = nI (tu_pk n L) → wx w = nI a → wy w = nI b →
    (∀ tm' we' wp' wx' wy', (∀ k, k < w → we' k = we k ∧ wp' k = wp k ∧ wx' k = wx k ∧ wy' k = wy k) → (∀ i j, i < 9 → j < 9 → tm' (9 * i + j) = tm (9 * i + j) + tu_iI (tu_tg (tu_cf i j) (tu_el F S e d) L a b)) → wX_findPolynomial_59 post N (nI n) (nI m) rd (nI w) Fa Sa tm' we' wp' wx' wy') →
    wX_findPolynomial_59 post (N + c) (nI n) (nI m) rd (nI (w + 1)) Fa Sa tm we wp wx wy := by
  intro d
  induction d with
  | zero =>
    intro e L he hL
    refine ⟨1, fun N w a b tm we wp wx wy hw hab e1 e2 e3 e4 h => ?_⟩
    have vi : vp_in (nI w) 12 := vp_in_nI (by omega) (by omega)
    have em : e = m := by omega
    subst em
    rw [Nat.sub_self] at e1
    refine br_f (nI_nle (by omega) (by omega)) (nm_r (nI_pred w) ?_)
    rw [nI_clamp (by omega), e1, e2, e3, e4]
    refine ⟨vi, vi, vi, vi, ?_⟩
    refine xw_work0 (by omega) (by omega) (h _ we wp wx wy (fun k _ => ⟨rfl, rfl, rfl, rfl⟩) (fun i j hi hj => ?_))
    rw [tu_el_0, tu_tg, xw_cf0]
    by_cases q : i = a ∧ j = b
    · rw [if_pos q, q.1, q.2, pk_us, tu_iI_1]
    · rw [if_neg q, pk_un (by omega), tu_iI_0, Int32.add_zero]
  | succ d ih =>
    intro e L he hL
    obtain ⟨c1, k1⟩ := ih (e + 1) L (by omega) hL
    obtain ⟨c2, k2⟩ := ih (e + 1) (tu_jn L (F e) (S e)) (by omega) (tu_jn_ok hL)
    have md : m - (e + 1) = d := by omega
    by_cases g : L (F e) = L (S e)
    · refine ⟨c1 + 1, fun N w a b tm we wp wx wy hw hab e1 e2 e3 e4 h => ?_⟩
      have vi : vp_in (nI w) 12 := vp_in_nI (by omega) (by omega)
      refine br_f (nI_nle (by omega) (by omega)) (nm_r (nI_pred w) ?_)
      rw [nI_clamp (by omega), e1, e2, e3, e4]
      refine ⟨vi, vi, vi, vi, ?_⟩
      refine xw_work hn hm hF hS hL (by omega) (by omega) (by omega) (by omega) (fun _ => ?_) (fun z => absurd g z) (fun z => absurd g z)
      refine k1 N w a (b + 1) _ _ _ _ _ (by omega) (by omega) pk_us pk_us pk_us pk_us (fun tm' we' wp' wx' wy' hk ht => ?_)
      refine h tm' we' wp' wx' wy' (fun k hkw => ?_) (fun i j hi hj => ?_)
      · have z := hk k hkw
        rw [pk_un (by omega), pk_un (by omega), pk_un (by omega), pk_un (by omega)] at z
        exact z
      · rw [ht i j hi hj, tu_el_s, tu_tg_loop g]
    · by_cases br : tu_fd (tu_el F S (e + 1) d) L (F e) = tu_fd (tu_el F S (e + 1) d) L (S e)
      · refine ⟨c1 + c2 + 1, fun N w a b tm we wp wx wy hw hab e1 e2 e3 e4 h => ?_⟩
        have vi : vp_in (nI w) 12 := vp_in_nI (by omega) (by omega)
        rw [show N + (c1 + c2 + 1) = N + c1 + c2 + 1 from by omega]
        refine br_f (nI_nle (by omega) (by omega)) (nm_r (nI_pred w) ?_)
        rw [nI_clamp (by omega), e1, e2, e3, e4]
        refine ⟨vi, vi, vi, vi, ?_⟩
        refine xw_work hn hm hF hS hL (by omega) (by omega) (by omega) (by omega) (fun z => absurd z g) (fun _ _ => ?_) (fun _ z => absurd br (by rw [md] at z; exact z))
        refine k2 (N + c1) (w + 1) a b _ _ _ _ _ (by omega) (by omega) pk_us pk_us pk_us pk_us (fun tm' we' wp' wx' wy' hk ht => ?_)
        have z0 := hk w (by omega)
        rw [pk_un (k := w + 1) (by omega), pk_un (k := w + 1) (by omega), pk_un (k := w + 1) (by omega), pk_un (k := w + 1) (by omega), pk_us, pk_us, pk_us, pk_us] at z0
        obtain ⟨z1, z2, z3, z4⟩ := z0
        refine k1 N w a b tm' we' wp' wx' wy' (by omega) (by omega) z1 z2 z3 z4 (fun tn ve vp vx vy hk2 ht2 => ?_)
        refine h tn ve vp vx vy (fun k hkw => ?_) (fun i j hi hj => ?_)
        · have y := hk k (by omega)
          rw [pk_un (by omega), pk_un (by omega), pk_un (by omega), pk_un (by omega), pk_un (by omega), pk_un (by omega), pk_un (by omega), pk_un (by omega)] at y
          have x := hk2 k hkw
          exact ⟨x.1.trans y.1, x.2.1.trans y.2.1, x.2.2.1.trans y.2.2.1, x.2.2.2.trans y.2.2.2⟩
        · rw [ht2 i j hi hj, ht i j hi hj, tu_el_s, tu_tg_other g br, tu_iI_add, Int32.add_assoc, Int32.add_comm (tu_iI (tu_tg (tu_cf i j) (tu_el F S (e + 1) d) L a b))]
      · refine ⟨c2 + 1, fun N w a b tm we wp wx wy hw hab e1 e2 e3 e4 h => ?_⟩
        have vi : vp_in (nI w) 12 := vp_in_nI (by omega) (by omega)
        refine br_f (nI_nle (by omega) (by omega)) (nm_r (nI_pred w) ?_)
        rw [nI_clamp (by omega), e1, e2, e3, e4]
        refine ⟨vi, vi, vi, vi, ?_⟩
        refine xw_work hn hm hF hS hL (by omega) (by omega) (by omega) (by omega) (fun z => absurd z g) (fun _ z => absurd (by rw [md] at z; exact z) br) (fun _ _ => ?_)
        refine k2 N w (a + 1) b _ _ _ _ _ (by omega) (by omega) pk_us pk_us pk_us pk_us (fun tm' we' wp' wx' wy' hk ht => ?_)
        refine h tm' we' wp' wx' wy' (fun k hkw => ?_) (fun i j hi hj => ?_)
        · have z := hk k hkw
          rw [pk_un (by omega), pk_un (by omega), pk_un (by omega), pk_un (by omega)] at z
          exact z
        · rw [ht i j hi hj, tu_el_s, tu_tg_bridge g br]
theorem xw_clear {post : SX → Prop} {fn fe : Int32} (h : ∀ tm', (∀ k, k < 81 → tm' k = 0) → wX_findPolynomial_15 post fn fe rd wt 1 (nI 81) Fa Sa tm' we wp wx wy) : ∀ d i tm, i + d = 81 → (∀ k, k < i → tm k = 0) → wX_findPolynomial_15 post fn fe rd wt (d + 1) (nI i) Fa Sa tm we wp wx wy := by
  intro d
  induction d with
  | zero =>
    intro i tm hi hk
    have e : i = 81 := by omega
    subst e
    exact h tm hk
  | succ d ih =>
    intro i tm hi hk
    refine br_f (nI_ge (b := 81) (by omega) (by omega)) ⟨vp_in_nI (by omega) (by omega), nm_e (nm_r (nI_1 i) (ih (i + 1) _ (by omega) (fun k hk' => ?_)))⟩
    rw [nI_clamp (by omega)]
    by_cases c : k = i
    · rw [c, pk_us]
    · rw [pk_un c]; exact hk k (by omega)
theorem xw_find {post : SX → Prop} (hn : n ≤ 6) (hm : m ≤ 8) (hF : tu_ar n F Fa) (hS : tu_ar n S Sa) (hr : rd = 0 ∨ tu_gd F S m tm) (h : ∀ rd' wt' tm' we' wp' wx' wy', tu_gd F S m tm' → post (nI n, nI m, rd', wt', Fa, Sa, tm', we', wp', wx', wy')) : wpX_findPolynomial post (nI n, nI m, rd, wt, Fa, Sa, tm, we, wp, wx, wy) := by
  have p1 := tu_p2 hm
  by_cases z : rd = 0
  · refine br_t z ⟨82, ?_⟩
    refine xw_clear (fun tm' ht => ?_) 81 0 tm (by omega) (fun k hk => by omega)
    refine br_t (nI_le (a := 81) (by omega) (by omega)) (xw_start hn ?_)
    rw [tu_all m (by omega)]
    refine xw_push (w := 0) (a := 0) (b := 0) (by omega) (by omega) (by omega) (by omega) ?_
    obtain ⟨c, k⟩ := xw_find_l (post := post) (rd := 1) hn hm hF hS m 0 (fun p => p) (by omega) tu_id_ok
    refine ⟨1 + c, k 1 0 0 0 _ _ _ _ _ (by omega) (by omega) pk_us pk_us pk_us pk_us (fun tn ve vp vx vy _ hq => ?_)⟩
    refine br_t (by decide) (h _ _ _ _ _ _ _ (fun i j hi hj => ?_))
    rw [hq i j hi hj, ht _ (by omega), Int32.zero_add]
  · rcases hr with hr | hr
    · exact absurd hr z
    · exact br_f z (h _ _ _ _ _ _ _ hr)
theorem xw_val_in {post : Int32 → SX → Prop} {J : Int32 → Int32 → Int32 → Prop} {X Y : Int32} {x y s : Int} {t : Nat → Int} {i : Nat} {fn fe : Int32} (hX : X = tu_iI x) (hY : Y = tu_iI y) (hi : i < 9) (ht : ∀ j, j < 9 → tm (9 * i + j) = tu_iI (t j)) (h : J (tu_iI (s + tu_sm 9 (fun j => t j * (x ^ i * y ^ j)))) (tu_iI (x ^ (i + 1))) (nI (i + 1))) :
    ∀ d j, j + d = 9 → wX_valueAt_26 post J X Y (tu_iI (x ^ i)) (nI i) fn fe rd wt Fa Sa tm we wp wx wy (d + 1) (tu_iI (s + tu_sm j (fun j => t j * (x ^ i * y ^ j)))) (tu_iI (x ^ i * y ^ j)) (nI j) := by
  intro d
  induction d with
  | zero =>
    intro j hj
    have e : j = 9 := by omega
    subst e
    refine br_t (nI_le (a := 9) (by omega) (by omega)) (nm_r (e' := tu_iI (x ^ (i + 1))) ?_ (nm_r (nI_1 i) h))
    rw [hX, ← tu_iI_mul, Int.pow_succ]
  | succ d ih =>
    intro j hj
    have e : (9 : Int32) * nI i + nI j = nI (9 * i + j) := by rw [show (9 : Int32) = nI 9 from rfl, pk_mul, nI_add]
    refine br_f (nI_ge (b := 9) (by omega) (by omega)) ?_
    rw [e, nI_clamp (by omega), ht j (by omega)]
    refine ⟨vp_in_nI (by omega) (by omega), nm_r (e' := tu_iI (s + tu_sm (j + 1) (fun j => t j * (x ^ i * y ^ j)))) ?_ (nm_r (e' := tu_iI (x ^ i * y ^ (j + 1))) ?_ (nm_r (nI_1 j) (ih (j + 1) (by omega))))⟩
    · rw [← tu_iI_mul, ← tu_iI_add, tu_sm_s, Int.add_assoc]
    · rw [hY, ← tu_iI_mul, Int.pow_succ, Int.mul_assoc]
theorem xw_val_out {post : Int32 → SX → Prop} {X Y : Int32} {x y : Int} {t : Nat → Nat → Int} {fn fe : Int32} (hX : X = tu_iI x) (hY : Y = tu_iI y) (ht : ∀ i j, i < 9 → j < 9 → tm (9 * i + j) = tu_iI (t i j)) (h : post (tu_iI (tu_sm 9 (fun i => tu_sm 9 (fun j => t i j * (x ^ i * y ^ j))))) (fn, fe, rd, wt, Fa, Sa, tm, we, wp, wx, wy)) :
    ∀ d i, i + d = 9 → wX_valueAt_12 post X Y fn fe rd wt Fa Sa tm we wp wx wy (d + 1) (tu_iI (tu_sm i (fun i => tu_sm 9 (fun j => t i j * (x ^ i * y ^ j))))) (tu_iI (x ^ i)) (nI i) := by
  intro d
  induction d with
  | zero =>
    intro i hi
    have e : i = 9 := by omega
    subst e
    exact br_t (nI_le (a := 9) (by omega) (by omega)) h
  | succ d ih =>
    intro i hi
    refine br_f (nI_ge (b := 9) (by omega) (by omega)) ⟨10, ?_⟩
    have k := xw_val_in (post := post) (J := wX_valueAt_12 post X Y fn fe rd wt Fa Sa tm we wp wx wy (d + 1)) (rd := rd) (wt := wt) (Fa := Fa) (Sa := Sa) (we := we) (wp := wp) (wx := wx) (wy := wy) (fn := fn) (fe := fe) (s := tu_sm i (fun i => tu_sm 9 (fun j => t i j * (x ^ i * y ^ j)))) (t := t i) hX hY (show i < 9 by omega) (fun j hj => ht i j (by omega) hj) (ih (i + 1) (by omega)) 9 0 (by omega)
    rw [tu_sm_0, Int.add_zero, Int.pow_zero, Int.mul_one] at k
    exact k
theorem xw_val {post : Int32 → SX → Prop} {X Y : Int32} (x y : Int) (hX : X = tu_iI x) (hY : Y = tu_iI y) (hn : n ≤ 6) (hm : m ≤ 8) (hF : tu_ar n F Fa) (hS : tu_ar n S Sa) (hr : rd = 0 ∨ tu_gd F S m tm)
    (h : ∀ rd' wt' tm' we' wp' wx' wy', tu_gd F S m tm' → post (tu_iI (tu_T n (fun p q => (x - 1) ^ p * (y - 1) ^ q) (tu_el F S 0 m) (fun p => p))) (nI n, nI m, rd', wt', Fa, Sa, tm', we', wp', wx', wy')) : wpX_valueAt post (nI n, nI m, rd, wt, Fa, Sa, tm, we, wp, wx, wy) X Y := by
  unfold wpX_valueAt
  dsimp only
  refine xw_find hn hm hF hS hr (fun rd' wt' tm' we' wp' wx' wy' hg => ⟨10, ?_⟩)
  have k := xw_val_out (post := post) (t := fun i j => tu_tg (tu_cf i j) (tu_el F S 0 m) (fun p => p) 0 0) (rd := rd') (wt := wt') (Fa := Fa) (Sa := Sa) (tm := tm') (we := we') (wp := wp') (wx := wx') (wy := wy') (fn := nI n) (fe := nI m) hX hY hg (by
    rw [tu_val (n := n) x y (tu_el F S 0 m) (fun p => p) tu_id_ok (tu_el_b2 hF hS 0 m) (by rw [tu_el_len]; exact hm)]
    exact h rd' wt' tm' we' wp' wx' wy' hg) 9 0 (by omega)
  rw [tu_sm_0, Int.pow_zero, tu_iI_0, tu_iI_1] at k
  exact k
end
end
section
def tu_lb (n : Nat) (l : Nat → Nat) (lb : Nat → Int32) : Prop := ∀ p, p < n → lb p = nI (l p) ∧ l p < 100
theorem tu_upd {f g : Nat → Int32} {k j : Nat} {x : Int32} (h : upd f k x = g) : g j = if j = k then x else f j := by rw [← h]; rfl
section
variable {Fa Sa lb sm : Nat → Int32} {pl : Nat → Int64} {n m : Nat} {F S : Nat → Nat}
theorem yw_in {post : Int32 → Prop} {u : SY} {a i : Nat} (ha : a < 2 ^ 31) (hi : i < 32) (h1 : a / 2 ^ i % 2 = 1 → post 1) (h0 : ¬ a / 2 ^ i % 2 = 1 → post 0) : wpY_in post u (nI a) (nI i) := by
  obtain ⟨a1, a2, a3, a4, a5, a6, a7⟩ := u
  unfold wpY_in
  dsimp only
  rw [tu_bit ha hi]
  exact pk_eq (a / 2 ^ i % 2) 1 h1 h0
theorem yw_size_l {post : Int32 → Prop} {a : Nat} {fn : Int32} (hm : m ≤ 8) (ha : a < 2 ^ 31) : ∀ d i c, i + d = m → post (nI (c + (tu_sub (tu_el F S i d) (a / 2 ^ i)).length)) → wY_sizeOf_4 post (nI a) fn (nI m) Fa Sa lb sm pl (d + 1) (nI c) (nI i) := by
  intro d
  induction d with
  | zero =>
    intro i c hi h
    exact br_t (nI_le (by omega) (by omega)) h
  | succ d ih =>
    intro i c hi h
    rw [tu_el_s, tu_sub, Nat.div_div_eq_div_mul, ← Nat.pow_succ] at h
    refine br_f (nI_ge (by omega) (by omega)) (yw_in ha (by omega) (fun g => ?_) (fun g => ?_))
    · rw [if_pos g, List.length_cons, ← Nat.add_assoc, Nat.add_right_comm] at h
      exact br_f (by decide) (nm_r (nI_1 c) (nm_r (nI_1 i) (ih (i + 1) (c + 1) (by omega) h)))
    · rw [if_neg g] at h
      exact br_t rfl (nm_r (nI_1 i) (ih (i + 1) c (by omega) h))
theorem yw_size {post : Int32 → Prop} {a : Nat} {fn : Int32} (hm : m ≤ 8) (ha : a < 2 ^ 31) (h : post (nI (tu_sub (tu_el F S 0 m) a).length)) : wpY_sizeOf post (fn, nI m, Fa, Sa, lb, sm, pl) (nI a) :=
  ⟨m + 1, yw_size_l (F := F) (S := S) hm ha m 0 0 (by omega) (by rw [Nat.pow_zero, Nat.div_one, Nat.zero_add]; exact h)⟩
theorem yw_spread_l {post : SY → Prop} {a : Nat} (hn : n ≤ 6) (hm : m ≤ 8) (ha : a < 2 ^ 31) (hF : tu_ar n F Fa) (hS : tu_ar n S Sa) : ∀ d i l lb, i + d = m → tu_lb n l lb → (∀ lb', tu_lb n (tu_sr (tu_sub (tu_el F S i d) (a / 2 ^ i)) l) lb' → post (nI n, nI m, Fa, Sa, lb', sm, pl)) → wY_spread_2 post (nI a) (nI n) (nI m) (d + 1) (nI i) Fa Sa lb sm pl := by
  intro d
  induction d with
  | zero =>
    intro i l lb hi hl h
    exact br_t (nI_le (by omega) (by omega)) (h lb hl)
  | succ d ih =>
    intro i l lb hi hl h
    rw [tu_el_s, tu_sub, Nat.div_div_eq_div_mul, ← Nat.pow_succ] at h
    refine br_f (nI_ge (by omega) (by omega)) (yw_in ha (by omega) (fun g => ?_) (fun g => ?_))
    · rw [if_pos g] at h
      have eF := tu_ar_at hF (show i < 100 by omega)
      have eS := tu_ar_at hS (show i < 100 by omega)
      have bF := (hF i).2
      have bS := (hS i).2
      have lF := hl _ bF
      have lS := hl _ bS
      have v9 : vp_in (nI i) 9 := vp_in_nI (by omega) (by omega)
      have vF : vp_in (nI (F i)) 6 := vp_in_nI (by omega) (by omega)
      have vS : vp_in (nI (S i)) 6 := vp_in_nI (by omega) (by omega)
      have go : ∀ z, z = nI (min (l (F i)) (l (S i))) → wY_spread_69 post (wY_spread_2 post (nI a) (nI n) (nI m) (d + 1)) (nI a) (nI i) z (nI n) (nI m) Fa Sa lb sm pl := by
        intro z hz
        unfold wY_spread_69
        rw [eF, eS, nI_clamp (by omega), nI_clamp (by omega), hz]
        refine ⟨v9, vF, nm_e ⟨v9, vS, nm_e (nm_r (nI_1 i) (ih (i + 1) (tu_sp l (F i, S i)) _ (by omega) (fun p hp => ?_) h))⟩⟩
        have lp := hl p hp
        unfold tu_sp upd
        dsimp only
        by_cases c1 : p = S i
        · rw [if_pos c1, if_pos c1]; exact ⟨rfl, by omega⟩
        · rw [if_neg c1, if_neg c1]
          by_cases c2 : p = F i
          · rw [if_pos c2, if_pos c2]; exact ⟨rfl, by omega⟩
          · rw [if_neg c2, if_neg c2]; exact lp
      refine br_f (by decide) ?_
      rw [eF, eS, nI_clamp (show F i < 2 ^ 31 by omega), nI_clamp (show S i < 2 ^ 31 by omega)]
      refine ⟨v9, vF, v9, vS, ?_⟩
      refine pk_le (l (S i)) (l (F i)) (fun c => ⟨v9, vS, go _ ?_⟩) (fun c => ⟨v9, vF, go _ ?_⟩) lS.1 lF.1
      · rw [lS.1, Nat.min_eq_right c]
      · rw [lF.1, Nat.min_eq_left (by omega)]
    · rw [if_neg g] at h
      exact br_t rfl (nm_r (nI_1 i) (ih (i + 1) l lb (by omega) hl h))
theorem yw_spread {post : SY → Prop} {a : Nat} {l : Nat → Nat} (hn : n ≤ 6) (hm : m ≤ 8) (ha : a < 2 ^ 31) (hF : tu_ar n F Fa) (hS : tu_ar n S Sa) (hl : tu_lb n l lb) (h : ∀ lb', tu_lb n (tu_sr (tu_sub (tu_el F S 0 m) a) l) lb' → post (nI n, nI m, Fa, Sa, lb', sm, pl)) : wpY_spread post (nI n, nI m, Fa, Sa, lb, sm, pl) (nI a) :=
  ⟨m + 1, yw_spread_l hn hm ha hF hS m 0 l lb (by omega) hl (by rw [Nat.pow_zero, Nat.div_one]; exact h)⟩
theorem yw_cnt_l {post : Int32 → SY → Prop} {L l : Nat → Nat} {fm : Int32} (hn : n ≤ 6) (hl : tu_lb n l lb) (hL : ∀ p, p < n → l p = L p) (h : post (nI (tu_fx n L)) (nI n, fm, Fa, Sa, lb, sm, pl)) : ∀ d i, i + d = n → wY_partsOf_46 post (nI n) fm Fa Sa lb sm pl (d + 1) (nI (tu_fx i L)) (nI i) := by
  intro d
  induction d with
  | zero =>
    intro i hi
    have e : i = n := by omega
    subst e
    exact br_t (nI_le (Nat.le_refl _) (by omega)) h
  | succ d ih =>
    intro i hi
    have j := ih (i + 1) (by omega)
    rw [tu_fx_s] at j
    have li := hl i (by omega)
    have Li := hL i (by omega)
    refine br_f (nI_ge (by omega) (by omega)) ⟨vp_in_nI (by omega) (by omega), ?_⟩
    rw [nI_clamp (by omega)]
    refine pk_eq (l i) i (fun c => ?_) (fun c => ?_) li.1
    · rw [if_pos (by omega)] at j
      exact nm_r (nI_1 _) (nm_r (nI_1 i) j)
    · rw [if_neg (by omega)] at j
      exact nm_r (nI_1 i) j
theorem yw_rnd_l {post : Int32 → SY → Prop} {a : Nat} (hn : n ≤ 6) (hm : m ≤ 8) (ha : a < 2 ^ 31) (hF : tu_ar n F Fa) (hS : tu_ar n S Sa) : ∀ d r l lb, r + d = 6 → tu_lb n l lb → (∀ p, p < n → tu_si (tu_sub (tu_el F S 0 m) a) d l p = tu_fd (tu_sub (tu_el F S 0 m) a) (fun p => p) p) → (∀ lb', post (nI (tu_fx n (tu_fd (tu_sub (tu_el F S 0 m) a) (fun p => p)))) (nI n, nI m, Fa, Sa, lb', sm, pl)) → wY_partsOf_25 post (nI a) (d + 1) (nI r) (nI n) (nI m) Fa Sa lb sm pl := by
  intro d
  induction d with
  | zero =>
    intro r l lb hr hl hi h
    have e : r = 6 := by omega
    subst e
    exact br_t (nI_le (a := 6) (by omega) (by omega)) ⟨n + 1, yw_cnt_l hn hl hi (h lb) n 0 (by omega)⟩
  | succ d ih =>
    intro r l lb hr hl hi h
    refine br_f (nI_ge (b := 6) (by omega) (by omega)) (yw_spread hn hm ha hF hS hl (fun lb' hl' => ?_))
    exact nm_r (nI_1 r) (ih (r + 1) _ lb' (by omega) hl' hi h)
theorem yw_init_l {post : Int32 → SY → Prop} {x1 fm : Int32} (hn : n ≤ 6) (h : ∀ lb', tu_lb n (fun p => p) lb' → wY_partsOf_2 post x1 (nI n) fm 1 (nI n) Fa Sa lb' sm pl) : ∀ d i lb, i + d = n → tu_lb i (fun p => p) lb → wY_partsOf_2 post x1 (nI n) fm (d + 1) (nI i) Fa Sa lb sm pl := by
  intro d
  induction d with
  | zero =>
    intro i lb hi hl
    have e : i = n := by omega
    subst e
    exact h lb hl
  | succ d ih =>
    intro i lb hi hl
    refine br_f (nI_ge (by omega) (by omega)) ⟨vp_in_nI (by omega) (by omega), nm_e (nm_r (nI_1 i) (ih (i + 1) _ (by omega) (fun p hp => ?_)))⟩
    rw [nI_clamp (by omega)]
    by_cases c : p = i
    · rw [c, pk_us]; exact ⟨rfl, show i < 100 by omega⟩
    · rw [pk_un c]; exact hl p (by omega)
theorem yw_parts {post : Int32 → SY → Prop} {a : Nat} (hn : n ≤ 6) (hm : m ≤ 8) (ha : a < 2 ^ 31) (hF : tu_ar n F Fa) (hS : tu_ar n S Sa) (h : ∀ lb', post (nI (tu_fx n (tu_fd (tu_sub (tu_el F S 0 m) a) (fun p => p)))) (nI n, nI m, Fa, Sa, lb', sm, pl)) : wpY_partsOf post (nI n, nI m, Fa, Sa, lb, sm, pl) (nI a) := by
  refine ⟨n + 1, yw_init_l hn (fun lb' hl => ?_) n 0 lb (by omega) (fun p hp => by omega)⟩
  refine br_t (nI_le (Nat.le_refl _) (by omega)) ⟨7, yw_rnd_l hn hm ha hF hS 6 0 (fun p => p) lb' (by omega) hl ?_ h⟩
  exact tu_si_fd (tu_bd_sub (tu_el_b2 hF hS 0 m) (tu_sub_mem a)) hn
theorem yw_rank {post : Int32 → SY → Prop} {a : Nat} (hn : n ≤ 6) (hm : m ≤ 8) (ha : a < 2 ^ 31) (hF : tu_ar n F Fa) (hS : tu_ar n S Sa) (h : ∀ lb', post (nI (n - tu_fx n (tu_fd (tu_sub (tu_el F S 0 m) a) (fun p => p)))) (nI n, nI m, Fa, Sa, lb', sm, pl)) : wpY_rank post (nI n, nI m, Fa, Sa, lb, sm, pl) (nI a) := by
  unfold wpY_rank
  dsimp only
  refine yw_parts hn hm ha hF hS (fun lb' => ?_)
  dsimp only
  rw [pk_sub (tu_fx_le _ _)]
  exact h lb'
theorem yw_all {post : Int32 → Prop} {fn : Int32} (hm : m ≤ 8) (h : post (nI (2 ^ m - 1))) : wpY_all post (fn, nI m, Fa, Sa, lb, sm, pl) := by
  unfold wpY_all
  dsimp only
  rw [tu_all m (by omega)]
  exact h
theorem tu_sub_f {m : Nat} (hm : m ≤ 8) : tu_sub (tu_el F S 0 m) (2 ^ m - 1) = tu_el F S 0 m := by
  have e := tu_sub_all (F := F) (S := S) (e := 0) hm (Nat.zero_le _)
  rw [Nat.pow_zero, Nat.sub_zero] at e
  exact e
theorem yw_partsM {post : Int32 → SY → Prop} (hn : n ≤ 6) (hm : m ≤ 8) (hF : tu_ar n F Fa) (hS : tu_ar n S Sa) (h : ∀ lb', post (nI (tu_fx n (tu_fd (tu_el F S 0 m) (fun p => p)))) (nI n, nI m, Fa, Sa, lb', sm, pl)) : wpY_parts post (nI n, nI m, Fa, Sa, lb, sm, pl) := by
  have b := tu_p2 hm
  unfold wpY_parts
  dsimp only
  refine yw_all hm (yw_parts hn hm (by omega) hF hS (fun lb' => ?_))
  rw [tu_sub_f hm]
  exact h lb'
end
end
section
def tu_iL (z : Int) : Int64 := Int64.ofInt z
theorem tu_iL_n (n : Nat) : tu_iL (n : Int) = lN n := Int64.ofInt_eq_ofNat
theorem tu_iL_add (a b : Int) : tu_iL (a + b) = tu_iL a + tu_iL b := Int64.ofInt_add a b
theorem tu_iL_neg (a : Int) : tu_iL (-a) = -tu_iL a := Int64.ofInt_neg a
theorem tu_iL_0 : tu_iL 0 = 0 := by decide
theorem tu_iL_i (z : Int) : (tu_iL z).toInt32 = tu_iI z := Int64.toInt32_ofInt
def tu_ch : Nat → Nat → Nat
  | _, 0 => 1
  | 0, _ + 1 => 0
  | a + 1, k + 1 => tu_ch a k + tu_ch a (k + 1)
theorem tu_ch_st : ∀ a, a < 9 → ∀ k, k < 9 → k < a → tu_ch a k * (a - k) / (k + 1) = tu_ch a (k + 1) := by decide +kernel
theorem tu_ch_b : ∀ a, a < 9 → ∀ k, k < 9 → tu_ch a k < 100 := by decide +kernel
theorem tu_qc_ch : ∀ p, p < 9 → ∀ i, i < 9 → tu_qc 0 p i = if i ≤ p then (if (p - i) % 2 = 0 then (tu_ch p i : Int) else -(tu_ch p i : Int)) else 0 := by decide +kernel
theorem tu_qq {p q i j : Nat} (hp : p < 9) (hq : q < 9) (hi : i ≤ p) (hj : j ≤ q) : tu_qc 0 p i * tu_qc 0 q j = if (p - i + q - j) % 2 = 0 then ((tu_ch p i * tu_ch q j : Nat) : Int) else -((tu_ch p i * tu_ch q j : Nat) : Int) := by
  rw [tu_qc_ch p hp i (by omega), tu_qc_ch q hq j (by omega), if_pos hi, if_pos hj, Int.natCast_mul]
  by_cases a : (p - i) % 2 = 0
  · by_cases b : (q - j) % 2 = 0
    · rw [if_pos a, if_pos b, if_pos (by omega)]
    · rw [if_pos a, if_neg b, if_neg (by omega), Int.mul_neg]
  · by_cases b : (q - j) % 2 = 0
    · rw [if_neg a, if_pos b, if_neg (by omega), Int.neg_mul]
    · rw [if_neg a, if_neg b, if_pos (by omega), Int.neg_mul_neg]
def tu_pl (t : Nat → Nat → Int) (pl : Nat → Int64) : Prop := ∀ i j, i < 9 → j < 9 → pl (9 * i + j) = tu_iL (t i j)
section
variable {Fa Sa lb sm : Nat → Int32} {pl : Nat → Int64} {n m : Nat} {F S : Nat → Nat}
theorem yw_choose_l {post : Int64 → Prop} {fn fm : Int32} {a b : Nat} (ha : a < 9) (hb : b ≤ a) (h : post (lN (tu_ch a b))) : ∀ d k, k + d = b → wY_choose_5 post (nI a) (nI b) fn fm Fa Sa lb sm pl (d + 1) (lN (tu_ch a k)) (nI (k + 1)) := by
  intro d
  induction d with
  | zero =>
    intro k hk
    have e : k = b := by omega
    subst e
    exact br_t (nI_lt (by omega) (by omega)) h
  | succ d ih =>
    intro k hk
    have c1 := tu_ch_b a ha k (by omega)
    have c2 : tu_ch a k * (a - k) ≤ 100 * 9 := Nat.mul_le_mul (by omega) (by omega)
    refine br_f (nI_nlt (by omega) (by omega)) ?_
    rw [nI_l (show k + 1 < 2 ^ 31 by omega), pk_sub (show k + 1 ≤ a by omega), nI_1, show a - (k + 1) + 1 = a - k from by omega, nI_l (show a - k < 2 ^ 31 by omega), lN_mul, pk_lDiv (by omega) (by omega) (by omega), tu_ch_st a ha k (by omega) (by omega)]
    refine ⟨?_, nm_e (nm_r (nI_1 (k + 1)) (ih (k + 1) (by omega)))⟩
    intro z
    have y := (lN_eq (a := k + 1) (b := 0) (by omega) (by omega)).mp z
    omega
theorem yw_choose {post : Int64 → Prop} {fn fm : Int32} {a b : Nat} (ha : a < 9) (hb : b ≤ a) (h : post (lN (tu_ch a b))) : wpY_choose post (fn, fm, Fa, Sa, lb, sm, pl) (nI a) (nI b) := by
  refine ⟨b + 1, ?_⟩
  have k := yw_choose_l (Fa := Fa) (Sa := Sa) (lb := lb) (sm := sm) (pl := pl) (fn := fn) (fm := fm) ha hb h b 0 (by omega)
  rw [show tu_ch a 0 = 1 from by unfold tu_ch; rfl] at k
  exact k
theorem yw_term_in {post : SY → Prop} {J : Int32 → (Nat → Int32) → (Nat → Int32) → (Nat → Int32) → (Nat → Int32) → (Nat → Int64) → Prop} {fn fm : Int32} {t : Nat → Nat → Int} {p q i : Nat} (hp : p < 9) (hq : q < 9) (hi : i ≤ p)
    (h : ∀ pl', tu_pl (fun i' j' => t i' j' + (if i' < i + 1 then tu_qc 0 p i' * tu_qc 0 q j' else 0)) pl' → J (nI (i + 1)) Fa Sa lb sm pl') :
    ∀ d j pl, j + d = q + 1 → tu_pl (fun i' j' => t i' j' + (if i' < i ∨ (i' = i ∧ j' < j) then tu_qc 0 p i' * tu_qc 0 q j' else 0)) pl → wY_addTerm_10 post J (nI p) (nI q) (nI i) fn fm (d + 1) (nI j) Fa Sa lb sm pl := by
  intro d
  induction d with
  | zero =>
    intro j pl hj hl
    refine br_t (nI_lt (by omega) (by omega)) (nm_r (nI_1 i) (h pl (fun i' j' hi' hj' => ?_)))
    rw [hl i' j' hi' hj']
    congr 1
    dsimp only
    by_cases c1 : i' < i
    · rw [if_pos (Or.inl c1), if_pos (by omega)]
    · by_cases c2 : i' = i
      · rw [if_pos (show i' < i + 1 by omega)]
        by_cases c3 : j' < j
        · rw [if_pos (Or.inr ⟨c2, c3⟩)]
        · rw [if_neg (by omega), tu_qc_ch q hq j' hj', if_neg (by omega), Int.mul_zero]
      · rw [if_neg (by omega), if_neg (by omega)]
  | succ d ih =>
    intro j pl hj hl
    have e9 : (9 : Int32) * nI i + nI j = nI (9 * i + j) := by rw [show (9 : Int32) = nI 9 from rfl, pk_mul, nI_add]
    have er : ((nI p - nI i + nI q - nI j) - (nI p - nI i + nI q - nI j) / 2 * 2) = nI ((p - i + q - j) % 2) := by
      rw [pk_sub hi, nI_add, pk_sub (show j ≤ p - i + q by omega)]
      exact pk_rem (d := 2) (by omega) (by omega) (by omega)
    have v81 : vp_in (nI (9 * i + j)) 81 := vp_in_nI (by omega) (by omega)
    have hq2 := tu_qq (i := i) (j := j) hp hq hi (by omega)
    have next : ∀ x, x = tu_iL (tu_qc 0 p i * tu_qc 0 q j) → wY_addTerm_10 post J (nI p) (nI q) (nI i) fn fm (d + 1) (nI (j + 1)) Fa Sa lb sm (vp_updL pl (9 * i + j) (pl (9 * i + j) + x)) := by
      intro x hx
      refine ih (j + 1) _ (by omega) (fun i' j' hi' hj' => ?_)
      have l1 := hl i' j' hi' hj'
      dsimp only at l1 ⊢
      by_cases c : i' = i ∧ j' = j
      · obtain ⟨c1, c2⟩ := c
        subst c1 c2
        rw [if_neg (by omega), Int.add_zero] at l1
        rw [pk_uLs, l1, hx, if_pos (Or.inr ⟨rfl, by omega⟩), tu_iL_add]
      · rw [pk_uLn (by omega), l1]
        congr 2
        by_cases c2 : i' < i ∨ i' = i ∧ j' < j
        · rw [if_pos c2, if_pos (by omega)]
        · rw [if_neg c2, if_neg (by omega)]
    refine br_f (nI_nlt (by omega) (by omega)) (yw_choose hp hi (yw_choose hq (by omega) ?_))
    rw [e9, er, lN_mul, nI_clamp (by omega)]
    refine nm_e ⟨v81, by decide, pk_eq (x := nI ((p - i + q - j) % 2)) (y := 0) ((p - i + q - j) % 2) 0 (fun c => ⟨v81, nm_e (nm_r (nI_1 j) (next _ ?_))⟩) (fun c => ⟨v81, nm_e (nm_r (nI_1 j) (next _ ?_))⟩)⟩
    · rw [hq2, if_pos c, tu_iL_n]
    · rw [hq2, if_neg c, tu_iL_neg, tu_iL_n]
theorem yw_term_out {post : SY → Prop} {fn fm : Int32} {t : Nat → Nat → Int} {p q : Nat} (hp : p < 9) (hq : q < 9)
    (h : ∀ pl', tu_pl (fun i' j' => t i' j' + tu_qc 0 p i' * tu_qc 0 q j') pl' → post (fn, fm, Fa, Sa, lb, sm, pl')) :
    ∀ d i pl, i + d = p + 1 → tu_pl (fun i' j' => t i' j' + (if i' < i then tu_qc 0 p i' * tu_qc 0 q j' else 0)) pl → wY_addTerm_2 post (nI p) (nI q) fn fm (d + 1) (nI i) Fa Sa lb sm pl := by
  intro d
  induction d with
  | zero =>
    intro i pl hi hl
    refine br_t (nI_lt (by omega) (by omega)) (h pl (fun i' j' hi' hj' => ?_))
    rw [hl i' j' hi' hj']
    dsimp only
    by_cases c : i' < i
    · rw [if_pos c]
    · rw [if_neg c, tu_qc_ch p hp i' hi', if_neg (by omega), Int.zero_mul]
  | succ d ih =>
    intro i pl hi hl
    refine br_f (nI_nlt (by omega) (by omega)) ⟨q + 2, yw_term_in (t := t) hp hq (by omega) (fun pl' hl' => ih (i + 1) pl' (by omega) hl') (q + 1) 0 pl (by omega) (fun i' j' hi' hj' => ?_)⟩
    rw [hl i' j' hi' hj']
    dsimp only
    by_cases c : i' < i
    · rw [if_pos c, if_pos (Or.inl c)]
    · rw [if_neg c, if_neg (by omega)]
theorem yw_term {post : SY → Prop} {fn fm : Int32} {t : Nat → Nat → Int} {p q : Nat} (hp : p < 9) (hq : q < 9) (hl : tu_pl t pl) (h : ∀ pl', tu_pl (fun i j => t i j + tu_qc 0 p i * tu_qc 0 q j) pl' → post (fn, fm, Fa, Sa, lb, sm, pl')) : wpY_addTerm post (fn, fm, Fa, Sa, lb, sm, pl) (nI p) (nI q) := by
  refine ⟨p + 2, yw_term_out (t := t) hp hq h (p + 1) 0 pl (by omega) (fun i j hi hj => ?_)⟩
  rw [hl i j hi hj]
  dsimp only
  rw [if_neg (by omega), Int.add_zero]
def tu_pe (n : Nat) (F S : Nat → Nat) (m a : Nat) : Nat := tu_fx n (tu_fd (tu_sub (tu_el F S 0 m) a) (fun p => p)) - tu_fx n (tu_fd (tu_el F S 0 m) (fun p => p))
def tu_qe (n : Nat) (F S : Nat → Nat) (m a : Nat) : Nat := tu_nl n (fun p => p) (tu_sub (tu_el F S 0 m) a)
theorem tu_pe_T {w : Nat → Nat → Int} : tu_sm (2 ^ m) (fun a => w (tu_pe n F S m a) (tu_qe n F S m a)) = tu_T n w (tu_el F S 0 m) (fun p => p) := by
  have a := tu_sub_ss (es := tu_el F S 0 m) (fun A => w (tu_fx n (tu_fd A (fun p => p)) - tu_fx n (tu_fd (tu_el F S 0 m) (fun p => p))) (tu_nl n (fun p => p) A))
  rw [tu_el_len] at a
  exact a
theorem tu_pe_f (hn : n ≤ 6) (hm : m ≤ 8) (hF : tu_ar n F Fa) (hS : tu_ar n S Sa) (a : Nat) :
    tu_fx n (tu_fd (tu_el F S 0 m) (fun p => p)) ≤ tu_fx n (tu_fd (tu_sub (tu_el F S 0 m) a) (fun p => p)) ∧ tu_fx n (tu_fd (tu_sub (tu_el F S 0 m) a) (fun p => p)) ≤ n ∧ n ≤ tu_fx n (tu_fd (tu_sub (tu_el F S 0 m) a) (fun p => p)) + (tu_sub (tu_el F S 0 m) a).length ∧ (tu_sub (tu_el F S 0 m) a).length ≤ m ∧ tu_qe n F S m a = (tu_sub (tu_el F S 0 m) a).length + tu_fx n (tu_fd (tu_sub (tu_el F S 0 m) a) (fun p => p)) - n := by
  have hb := tu_el_b2 hF hS 0 m
  have h1 := tu_fx_sub (n := n) (L := fun p => p) tu_id_ok (tu_sub_mem (es := tu_el F S 0 m) a)
  have h2 := tu_fx_fd (n := n) (L := fun p => p) tu_id_ok (tu_bd_sub hb (tu_sub_mem (es := tu_el F S 0 m) a))
  have h3 := tu_sub_len (es := tu_el F S 0 m) a
  rw [tu_el_len] at h3
  rw [tu_fx_id] at h2
  refine ⟨h1, h2.1, h2.2, h3, ?_⟩
  unfold tu_qe tu_nl
  rw [tu_fx_id]
theorem yw_coef_l {post : Int32 → SY → Prop} {x y : Nat} (hn : n ≤ 6) (hm : m ≤ 8) (hF : tu_ar n F Fa) (hS : tu_ar n S Sa) (hx : x < 9) (hy : y < 9) (h : ∀ lb' pl', post (tu_iI (tu_T n (fun p q => tu_qc 0 p x * tu_qc 0 q y) (tu_el F S 0 m) (fun p => p))) (nI n, nI m, Fa, Sa, lb', sm, pl')) :
    ∀ d a lb pl, a + d = 2 ^ m → tu_pl (fun i j => tu_sm a (fun a => tu_qc 0 (tu_pe n F S m a) i * tu_qc 0 (tu_qe n F S m a) j)) pl → wY_coefficient_61 post (nI x) (nI y) (nI (2 ^ m - 1)) (nI (n - tu_fx n (tu_fd (tu_el F S 0 m) (fun p => p)))) (d + 1) (nI a) (nI n) (nI m) Fa Sa lb sm pl := by
  have p2 := tu_p2 hm
  intro d
  induction d with
  | zero =>
    intro a lb pl ha hl
    have e9 : (9 : Int32) * nI x + nI y = nI (9 * x + y) := by rw [show (9 : Int32) = nI 9 from rfl, pk_mul, nI_add]
    have l1 := hl x y hx hy
    dsimp only at l1
    have e : a = 2 ^ m := by omega
    refine br_t (nI_lt (by omega) (by omega)) ?_
    rw [e9, nI_clamp (by omega), l1, tu_iL_i, e, tu_pe_T (w := fun p q => tu_qc 0 p x * tu_qc 0 q y)]
    exact ⟨vp_in_nI (by omega) (by omega), h lb pl⟩
  | succ d ih =>
    intro a lb pl ha hl
    obtain ⟨f1, f2, f3, f4, f5⟩ := tu_pe_f (m := m) hn hm hF hS a
    refine br_f (nI_nlt (by omega) (by omega)) (yw_rank hn hm (by omega) hF hS (fun lb' => yw_size (F := F) (S := S) hm (by omega) ?_))
    have e1 : n - tu_fx n (tu_fd (tu_el F S 0 m) (fun p => p)) - (n - tu_fx n (tu_fd (tu_sub (tu_el F S 0 m) a) (fun p => p))) = tu_pe n F S m a := by unfold tu_pe; omega
    have e2 : (tu_sub (tu_el F S 0 m) a).length - (n - tu_fx n (tu_fd (tu_sub (tu_el F S 0 m) a) (fun p => p))) = tu_qe n F S m a := by rw [f5]; omega
    rw [pk_sub (by omega), pk_sub (by omega), e1, e2]
    refine yw_term (by unfold tu_pe; omega) (by omega) hl (fun pl' hl' => ?_)
    exact nm_r (nI_1 a) (ih (a + 1) lb' pl' (by omega) hl')
theorem yw_clr_l {post : Int32 → SY → Prop} {x1 x2 x3 x4 fn fm : Int32} (h : ∀ pl', (∀ k, k < 81 → pl' k = 0) → wY_coefficient_37 post x1 x2 x3 x4 fn fm 1 (nI 81) Fa Sa lb sm pl') : ∀ d i pl, i + d = 81 → (∀ k, k < i → pl k = 0) → wY_coefficient_37 post x1 x2 x3 x4 fn fm (d + 1) (nI i) Fa Sa lb sm pl := by
  intro d
  induction d with
  | zero =>
    intro i pl hi hk
    have e : i = 81 := by omega
    subst e
    exact h pl hk
  | succ d ih =>
    intro i pl hi hk
    refine br_f (nI_ge (b := 81) (by omega) (by omega)) ⟨vp_in_nI (by omega) (by omega), nm_e (nm_r (nI_1 i) (ih (i + 1) _ (by omega) (fun k hk' => ?_)))⟩
    rw [nI_clamp (by omega)]
    by_cases c : k = i
    · rw [c, pk_uLs]
    · rw [pk_uLn c]; exact hk k (by omega)
theorem yw_coef {post : Int32 → SY → Prop} {x y : Nat} (hn : n ≤ 6) (hm : m ≤ 8) (hF : tu_ar n F Fa) (hS : tu_ar n S Sa) (hx : x < 9) (hy : y < 9) (h : ∀ lb' pl', post (tu_iI (tu_T n (fun p q => tu_qc 0 p x * tu_qc 0 q y) (tu_el F S 0 m) (fun p => p))) (nI n, nI m, Fa, Sa, lb', sm, pl')) : wpY_coefficient post (nI n, nI m, Fa, Sa, lb, sm, pl) (nI x) (nI y) := by
  have p2 := tu_p2 hm
  refine br_f (nI_pos (by omega)) (br_f (nI_nlt (a := 8) (by omega) (by omega)) (br_f (nI_pos (by omega)) (br_t (nI_le (b := 8) (by omega) (by omega)) ?_)))
  refine yw_all hm (yw_rank hn hm (by omega) hF hS (fun lb' => ⟨82, ?_⟩))
  rw [tu_sub_f hm]
  refine yw_clr_l (fun pl' hk => ?_) 81 0 pl (by omega) (fun k hk => by omega)
  refine br_t (nI_le (a := 81) (by omega) (by omega)) ⟨2 ^ m + 1, yw_coef_l hn hm hF hS hx hy h (2 ^ m) 0 lb' pl' (by omega) (fun i j hi hj => ?_)⟩
  rw [hk _ (by omega)]
  exact tu_iL_0.symm
theorem yw_count_l {post : Int32 → SY → Prop} {x1 x2 : Int32} (hn : n ≤ 6) (hm : m ≤ 8) (hF : tu_ar n F Fa) (hS : tu_ar n S Sa) (h : ∀ lb', post (tu_iI (tu_T n (fun p q => tu_b ((x1 = 0 ∨ p = 0) ∧ (x2 = 0 ∨ q = 0))) (tu_el F S 0 m) (fun p => p))) (nI n, nI m, Fa, Sa, lb', sm, pl)) :
    ∀ d a lb, a + d = 2 ^ m → wY_count_18 post x1 x2 (nI (2 ^ m - 1)) (nI (n - tu_fx n (tu_fd (tu_el F S 0 m) (fun p => p)))) (d + 1) (tu_iI (tu_sm a (fun a => tu_b ((x1 = 0 ∨ tu_pe n F S m a = 0) ∧ (x2 = 0 ∨ tu_qe n F S m a = 0))))) (nI a) (nI n) (nI m) Fa Sa lb sm pl := by
  have p2 := tu_p2 hm
  intro d
  induction d with
  | zero =>
    intro a lb ha
    have e : a = 2 ^ m := by omega
    refine br_t (nI_lt (by omega) (by omega)) ?_
    rw [e, tu_pe_T (w := fun p q => tu_b ((x1 = 0 ∨ p = 0) ∧ (x2 = 0 ∨ q = 0)))]
    exact h lb
  | succ d ih =>
    intro a lb ha
    obtain ⟨f1, f2, f3, f4, f5⟩ := tu_pe_f (m := m) hn hm hF hS a
    have yes : ∀ lb', ((x1 = 0 ∨ tu_pe n F S m a = 0) ∧ (x2 = 0 ∨ tu_qe n F S m a = 0)) → ∀ x, x = tu_iI (tu_sm a (fun a => tu_b ((x1 = 0 ∨ tu_pe n F S m a = 0) ∧ (x2 = 0 ∨ tu_qe n F S m a = 0)))) + 1 → ∀ y, y = nI a + 1 → wY_count_18 post x1 x2 (nI (2 ^ m - 1)) (nI (n - tu_fx n (tu_fd (tu_el F S 0 m) (fun p => p)))) (d + 1) x y (nI n) (nI m) Fa Sa lb' sm pl := by
      intro lb' z x hx y hy
      have i := ih (a + 1) lb' (by omega)
      rw [tu_sm_s, tu_b_t z, ← tu_iI_s] at i
      rw [hx, hy, nI_1]
      exact i
    have no : ∀ lb', ¬ ((x1 = 0 ∨ tu_pe n F S m a = 0) ∧ (x2 = 0 ∨ tu_qe n F S m a = 0)) → ∀ y, y = nI a + 1 → wY_count_18 post x1 x2 (nI (2 ^ m - 1)) (nI (n - tu_fx n (tu_fd (tu_el F S 0 m) (fun p => p)))) (d + 1) (tu_iI (tu_sm a (fun a => tu_b ((x1 = 0 ∨ tu_pe n F S m a = 0) ∧ (x2 = 0 ∨ tu_qe n F S m a = 0))))) y (nI n) (nI m) Fa Sa lb' sm pl := by
      intro lb' z y hy
      have i := ih (a + 1) lb' (by omega)
      rw [tu_sm_s, tu_b_f z, Int.add_zero] at i
      rw [hy, nI_1]
      exact i
    have mid : ∀ lb', (x1 = 0 ∨ tu_pe n F S m a = 0) → wY_count_43 post (wY_count_18 post x1 x2 (nI (2 ^ m - 1)) (nI (n - tu_fx n (tu_fd (tu_el F S 0 m) (fun p => p)))) (d + 1)) x1 x2 (nI (2 ^ m - 1)) (nI (n - tu_fx n (tu_fd (tu_el F S 0 m) (fun p => p)))) (tu_iI (tu_sm a (fun a => tu_b ((x1 = 0 ∨ tu_pe n F S m a = 0) ∧ (x2 = 0 ∨ tu_qe n F S m a = 0))))) (nI a) (nI (n - tu_fx n (tu_fd (tu_sub (tu_el F S 0 m) a) (fun p => p)))) (nI n) (nI m) Fa Sa lb' sm pl := by
      intro lb' z
      refine br_c (fun c => ?_) (fun c => yw_size (F := F) (S := S) hm (by omega) ?_)
      · exact yes lb' ⟨z, Or.inl c⟩
      · refine pk_eq (tu_sub (tu_el F S 0 m) a).length (n - tu_fx n (tu_fd (tu_sub (tu_el F S 0 m) a) (fun p => p))) (fun g => ?_) (fun g => ?_)
        · exact yes lb' ⟨z, Or.inr (by omega)⟩
        · exact no lb' (fun y => y.2.elim c (fun r => by omega))
    refine br_f (nI_nlt (by omega) (by omega)) (yw_rank hn hm (by omega) hF hS (fun lb' => br_c (fun c => mid lb' (Or.inl c)) (fun c => ?_)))
    refine pk_eq (n - tu_fx n (tu_fd (tu_sub (tu_el F S 0 m) a) (fun p => p))) (n - tu_fx n (tu_fd (tu_el F S 0 m) (fun p => p))) (fun g => mid lb' (Or.inr (by unfold tu_pe; omega))) (fun g => ?_)
    refine no lb' (fun y => y.1.elim c (fun r => ?_))
    unfold tu_pe at r
    omega
theorem yw_count {post : Int32 → SY → Prop} {x1 x2 : Int32} (hn : n ≤ 6) (hm : m ≤ 8) (hF : tu_ar n F Fa) (hS : tu_ar n S Sa) (h : ∀ lb', post (tu_iI (tu_T n (fun p q => tu_b ((x1 = 0 ∨ p = 0) ∧ (x2 = 0 ∨ q = 0))) (tu_el F S 0 m) (fun p => p))) (nI n, nI m, Fa, Sa, lb', sm, pl)) : wpY_count post (nI n, nI m, Fa, Sa, lb, sm, pl) x1 x2 := by
  have p2 := tu_p2 hm
  unfold wpY_count
  dsimp only
  refine yw_all hm (yw_rank hn hm (by omega) hF hS (fun lb' => ⟨2 ^ m + 1, ?_⟩))
  rw [tu_sub_f hm]
  have k := yw_count_l (x1 := x1) (x2 := x2) hn hm hF hS h (2 ^ m) 0 lb' (by omega)
  rw [tu_sm_0, tu_iI_0] at k
  exact k
end
end
section
section
variable {Fa Sa lb sm : Nat → Int32} {pl : Nat → Int64} {n m : Nat} {F S : Nat → Nat}
theorem yw_digit_l {post : Int32 → Prop} {fn fm : Int32} {k p : Nat} (hk : 0 < k) (hk2 : k < 100) (hp : p < 100) : ∀ d i r, i + d = p → r < 2 ^ 31 → post (nI (r / k ^ d % k)) → wY_digit_6 post (nI k) (nI p) fn fm Fa Sa lb sm pl (d + 1) (nI r) (nI i) := by
  have h1 : (1 : Int32) ≤ nI k := nI_le (a := 1) (by omega) (by omega)
  have h0 : ¬ nI k = 0 := nI_ne0 hk (by omega)
  intro d
  induction d with
  | zero =>
    intro i r hi hr h
    rw [Nat.pow_zero, Nat.div_one] at h
    refine br_t (nI_le (by omega) (by omega)) (br_t h1 ⟨h0, ?_⟩)
    rw [pk_rem hr hk (by omega)]
    exact h
  | succ d ih =>
    intro i r hi hr h
    refine br_f (nI_ge (by omega) (by omega)) (br_t h1 ⟨h0, nm_r (pk_div hr hk (by omega)) (nm_r (nI_1 i) (ih (i + 1) (r / k) (by omega) (Nat.lt_of_le_of_lt (Nat.div_le_self _ _) hr) ?_))⟩)
    rw [Nat.div_div_eq_div_mul, Nat.mul_comm, ← Nat.pow_succ]
    exact h
theorem yw_digit {post : Int32 → Prop} {fn fm : Int32} {k p c : Nat} (hk : 0 < k) (hk2 : k < 100) (hp : p < 100) (hc : c < 2 ^ 31) (h : post (nI (tu_dg k c p))) : wpY_digit post (fn, fm, Fa, Sa, lb, sm, pl) (nI c) (nI k) (nI p) :=
  ⟨p + 1, yw_digit_l hk hk2 hp p 0 c (by omega) hc h⟩
theorem yw_power_l {post : Int32 → Prop} {fn fm : Int32} {b t : Nat} (ht : t < 100) (h : post (nI (b ^ t))) : ∀ d i, i + d = t → wY_power_5 post (nI b) (nI t) fn fm Fa Sa lb sm pl (d + 1) (nI (b ^ i)) (nI i) := by
  intro d
  induction d with
  | zero =>
    intro i hi
    have e : i = t := by omega
    subst e
    exact br_t (nI_le (Nat.le_refl _) (by omega)) h
  | succ d ih =>
    intro i hi
    refine br_f (nI_ge (by omega) (by omega)) (nm_r (e' := nI (b ^ (i + 1))) ?_ (nm_r (nI_1 i) (ih (i + 1) (by omega))))
    rw [pk_mul, Nat.pow_succ]
theorem yw_power {post : Int32 → Prop} {fn fm : Int32} {b t : Nat} (ht : t < 100) (h : post (nI (b ^ t))) : wpY_power post (fn, fm, Fa, Sa, lb, sm, pl) (nI b) (nI t) := by
  refine ⟨t + 1, ?_⟩
  have k := yw_power_l (Fa := Fa) (Sa := Sa) (lb := lb) (sm := sm) (pl := pl) (fn := fn) (fm := fm) ht h t 0 (by omega)
  rw [Nat.pow_zero] at k
  exact k
theorem yw_col_z {post : Int32 → Prop} {J : Int32 → Int32 → Prop} {fn x1 x2 x3 fm x6 : Int32} {c d : Nat} (h : J x2 (nI (c + 1))) : wY_colourings_39 post J x1 x2 x3 (nI c) fn fm Fa Sa lb sm pl (d + 1) 0 x6 := by
  have z : wY_colourings_97 post J x1 x2 x3 (nI c) 0 fn fm Fa Sa lb sm pl := br_t rfl (nm_r (nI_1 c) h)
  exact br_c (fun _ => z) (fun _ => br_t rfl z)
theorem yw_col_in {post : Int32 → Prop} {J : Int32 → Int32 → Prop} {fn x2 x3 : Int32} {k c : Nat} (hn : n ≤ 6) (hm : m ≤ 8) (hF : tu_ar n F Fa) (hS : tu_ar n S Sa) (hk : 0 < k) (hk2 : k < 100) (hc : c < 2 ^ 31) (h0 : J x2 (nI (c + 1)) ∨ True) :
    ∀ d i, i + d = m → (tu_pr (tu_dg k c) (tu_el F S i d) → J (x2 + 1) (nI (c + 1))) → (¬ tu_pr (tu_dg k c) (tu_el F S i d) → J x2 (nI (c + 1))) → wY_colourings_39 post J (nI k) x2 x3 (nI c) fn (nI m) Fa Sa lb sm pl (d + 1 + 1) 1 (nI i) := by
  intro d
  induction d with
  | zero =>
    intro i hi h1 h2
    refine br_t (nI_le (by omega) (by omega)) (br_f (by decide) (nm_e (nm_r (nI_1 c) (h1 (fun e he => nomatch he)))))
  | succ d ih =>
    intro i hi h1 h2
    rw [tu_el_s, tu_pr_s] at h1 h2
    have eF := tu_ar_at hF (show i < 100 by omega)
    have eS := tu_ar_at hS (show i < 100 by omega)
    have bF := (hF i).2
    have bS := (hS i).2
    have v9 : vp_in (nI i) 9 := vp_in_nI (by omega) (by omega)
    refine br_f (nI_ge (by omega) (by omega)) (br_f (by decide) ?_)
    rw [eF, eS]
    refine ⟨v9, yw_digit hk hk2 (by omega) hc ⟨v9, yw_digit hk hk2 (by omega) hc ?_⟩⟩
    have d1 := tu_dg_lt hk c (F i)
    have d2 := tu_dg_lt hk c (S i)
    refine pk_eq (tu_dg k c (F i)) (tu_dg k c (S i)) (fun g => nm_r (nI_1 i) (yw_col_z (h2 (fun z => z.1 g)))) (fun g => nm_r (nI_1 i) (ih (i + 1) (by omega) (fun z => h1 ⟨g, z⟩) (fun z => h2 (fun y => z y.2))))
theorem yw_col_out {post : Int32 → Prop} {fn : Int32} {k N : Nat} (hn : n ≤ 6) (hm : m ≤ 8) (hF : tu_ar n F Fa) (hS : tu_ar n S Sa) (hk : 0 < k) (hk2 : k < 100) (hN : N < 2 ^ 31) (h : post (tu_iI (tu_sm N (fun c => tu_b (tu_pr (tu_dg k c) (tu_el F S 0 m)))))) :
    ∀ d c, c + d = N → wY_colourings_27 post (nI k) (nI N) fn (nI m) Fa Sa lb sm pl (d + 1) (tu_iI (tu_sm c (fun c => tu_b (tu_pr (tu_dg k c) (tu_el F S 0 m))))) (nI c) := by
  intro d
  induction d with
  | zero =>
    intro c hc
    have e : c = N := by omega
    subst e
    exact br_t (nI_le (Nat.le_refl _) (by omega)) h
  | succ d ih =>
    intro c hc
    have i := ih (c + 1) (by omega)
    rw [tu_sm_s] at i
    refine br_f (nI_ge (by omega) (by omega)) ⟨m + 2, yw_col_in (F := F) (S := S) hn hm hF hS hk hk2 (by omega) (Or.inr trivial) m 0 (by omega) (fun z => ?_) (fun z => ?_)⟩
    · rw [tu_b_t z, ← tu_iI_s] at i
      exact i
    · rw [tu_b_f z, Int.add_zero] at i
      exact i
theorem tu_N_id {k : Nat} {es : List (Nat × Nat)} : tu_N k n es (fun p => p) = tu_sm (k ^ n) (fun c => tu_b (tu_pr (tu_dg k c) es)) := by
  unfold tu_N
  apply tu_sm_congr
  intro c _
  rw [tu_b_t (p := tu_rs (tu_dg k c) (fun p => p)) (fun p => rfl), Int.one_mul]
theorem yw_col {post : Int32 → Prop} {k : Nat} (hn1 : 1 ≤ n) (hn : n ≤ 6) (hm : m ≤ 8) (hF : tu_ar n F Fa) (hS : tu_ar n S Sa) (hk2 : k ≤ 6) (h0 : k = 0 → post 0) (h : 0 < k → post (tu_iI (tu_N k n (tu_el F S 0 m) (fun p => p)))) : wpY_colourings post (nI n, nI m, Fa, Sa, lb, sm, pl) (nI k) := by
  refine br_f (nI_pos (by omega)) (br_t (nI_le (b := 6) (by omega) (by omega)) ?_)
  refine yw_power (by omega) ?_
  by_cases hk : k = 0
  · subst hk
    rw [Nat.zero_pow (by omega)]
    exact ⟨1, br_t (by decide) (h0 rfl)⟩
  · have b : k ^ n ≤ 6 ^ 6 := Nat.le_trans (Nat.pow_le_pow_left hk2 n) (Nat.pow_le_pow_right (by omega) hn)
    have q := yw_col_out (Fa := Fa) (Sa := Sa) (lb := lb) (sm := sm) (pl := pl) (fn := nI n) (F := F) (S := S) (post := post) (k := k) (N := k ^ n) hn hm hF hS (by omega) (by omega) (by omega) (by rw [← tu_N_id]; exact h (by omega)) (k ^ n) 0 (by omega)
    rw [tu_sm_0, tu_iI_0] at q
    exact ⟨k ^ n + 1, q⟩
end
end
section
theorem tu_rm : ∀ j : Nat, j < 65 → ∀ k : Nat, k < 5 → 0 < k → ((tu_iI ((j : Int) - 32) - tu_iI ((j : Int) - 32) / nI k * nI k = 0) ↔ ((j : Int) - 32) % (k : Int) = 0) := by decide +kernel
theorem tu_rmz {z : Int} {k : Nat} (h1 : -32 ≤ z) (h2 : z ≤ 32) (hk : 0 < k) (hk2 : k < 5) : (tu_iI z - tu_iI z / nI k * nI k = 0) ↔ (k : Int) ∣ z := by
  have a := tu_rm (z + 32).toNat (by omega) k hk2 hk
  rw [show (((z + 32).toNat : Nat) : Int) - 32 = z from by omega] at a
  rw [a, Int.dvd_iff_emod_eq_zero]
theorem tu_cs_id {n : Nat} {B : Nat → Int} {q : Nat} : tu_cs n (fun p => p) B q = if q < n then B q else 0 := by
  unfold tu_cs
  by_cases h : q < n
  · rw [if_pos h, tu_sm_one (k := q) h, tu_b_t rfl, Int.one_mul]
    intro i _ hi
    rw [tu_b_f hi, Int.zero_mul]
  · rw [if_neg h, tu_sm_congr (g := fun _ => 0), tu_sm_zero]
    intro i hi
    rw [tu_b_f (show ¬ i = q by omega), Int.zero_mul]
theorem tu_ba_id {n k : Nat} {B : Nat → Int} : tu_ba n k (fun p => p) B ↔ ∀ q, q < n → (k : Int) ∣ B q := by
  unfold tu_ba
  constructor
  · intro h q hq
    have a := h q
    rw [tu_cs_id, if_pos hq] at a
    exact a
  · intro h q
    rw [tu_cs_id]
    by_cases c : q < n
    · rw [if_pos c]; exact h q c
    · rw [if_neg c]; exact ⟨0, by rw [Int.mul_zero]⟩
def tu_sb (n : Nat) (B : Nat → Int) (c : Int) (sm : Nat → Int32) : Prop := ∀ p, p < n → sm p = tu_iI (B p) ∧ -c ≤ B p ∧ B p ≤ c
section
variable {Fa Sa lb sm : Nat → Int32} {pl : Nat → Int64} {n m : Nat} {F S : Nat → Nat}
theorem yw_bal_c {post : Int32 → SY → Prop} {fm : Int32} {k : Nat} {B : Nat → Int} (hn : n ≤ 6) (hk : 0 < k) (hk2 : k < 5) (hs : tu_sb n B 32 sm) (h1 : tu_ba n k (fun p => p) B → post 1 (nI n, fm, Fa, Sa, lb, sm, pl)) (h0 : ¬ tu_ba n k (fun p => p) B → post 0 (nI n, fm, Fa, Sa, lb, sm, pl)) :
    ∀ d i, i + d = n → (∀ q, q < i → (k : Int) ∣ B q) → wY_balanced_86 post (nI k) (nI n) fm Fa Sa lb sm pl (d + 1) (nI i) := by
  intro d
  induction d with
  | zero =>
    intro i hi hq
    have e : i = n := by omega
    subst e
    exact br_t (nI_le (Nat.le_refl _) (by omega)) (h1 (tu_ba_id.mpr hq))
  | succ d ih =>
    intro i hi hq
    have si := hs i (by omega)
    have rz := tu_rmz si.2.1 si.2.2 hk hk2
    refine br_f (nI_ge (by omega) (by omega)) ⟨vp_in_nI (by omega) (by omega), br_t (nI_le (a := 1) (by omega) (by omega)) ?_⟩
    unfold wY_balanced_110
    rw [nI_clamp (by omega), si.1]
    refine ⟨nI_ne0 hk (by omega), ?_⟩
    by_cases c : (k : Int) ∣ B i
    · refine br_t (rz.mpr c) (nm_r (nI_1 i) (ih (i + 1) (by omega) (fun q hq' => ?_)))
      by_cases e : q = i
      · rw [e]; exact c
      · exact hq q (by omega)
    · exact br_f (fun z => c (rz.mp z)) (h0 (fun z => c (tu_ba_id.mp z i (by omega))))
theorem yw_bal_e {post : Int32 → SY → Prop} {b c : Nat} (hn : n ≤ 6) (hm : m ≤ 8) (hF : tu_ar n F Fa) (hS : tu_ar n S Sa) (hb : 0 < b ∨ m = 0) (hb2 : b < 4) (hc : c < 2 ^ 31)
    (h1 : ∀ sm', tu_ba n (b + 1) (fun p => p) (tu_nt b (tu_el F S 0 m) c (fun _ => 0)) → post 1 (nI n, nI m, Fa, Sa, lb, sm', pl)) (h0 : ∀ sm', ¬ tu_ba n (b + 1) (fun p => p) (tu_nt b (tu_el F S 0 m) c (fun _ => 0)) → post 0 (nI n, nI m, Fa, Sa, lb, sm', pl)) :
    ∀ d i B sm, i + d = m → tu_sb n B (3 * (i : Int)) sm → tu_nt b (tu_el F S i d) (c / b ^ i) B = tu_nt b (tu_el F S 0 m) c (fun _ => 0) → wY_balanced_25 post (nI c) (nI (b + 1)) (nI n) (nI m) (d + 1) (nI i) Fa Sa lb sm pl := by
  intro d
  induction d with
  | zero =>
    intro i B sm hi hs hB
    have hB' : B = tu_nt b (tu_el F S 0 m) c (fun _ => 0) := hB
    refine br_t (nI_le (by omega) (by omega)) ⟨n + 1, yw_bal_c (k := b + 1) (B := B) hn (by omega) (by omega) (fun p hp => ?_) (fun z => h1 sm (by rw [← hB']; exact z)) (fun z => h0 sm (by rw [← hB']; exact z)) n 0 (by omega) (fun q hq => by omega)⟩
    have s := hs p hp
    exact ⟨s.1, by omega, by omega⟩
  | succ d ih =>
    intro i B sm hi hs hB
    have b0 : 0 < b := by omega
    have eF := tu_ar_at hF (show i < 100 by omega)
    have eS := tu_ar_at hS (show i < 100 by omega)
    have bF := (hF i).2
    have bS := (hS i).2
    have v9 : vp_in (nI i) 9 := vp_in_nI (by omega) (by omega)
    have vF : vp_in (nI (F i)) 6 := vp_in_nI (by omega) (by omega)
    have vS : vp_in (nI (S i)) 6 := vp_in_nI (by omega) (by omega)
    have dl := tu_dg_lt b0 c i
    refine br_f (nI_ge (by omega) (by omega)) ?_
    rw [nI_pred, eF, eS, nI_clamp (show F i < 2 ^ 31 by omega), nI_clamp (show S i < 2 ^ 31 by omega)]
    refine yw_digit b0 (by omega) (by omega) hc (nm_r (e' := tu_iI ((1 + tu_dg b c i : Nat) : Int)) ?_ ⟨v9, vF, vF, nm_e ⟨v9, vS, vS, nm_e (nm_r (nI_1 i) (ih (i + 1) (tu_pt B (F i, S i) ((1 + tu_dg b c i : Nat) : Int)) _ (by omega) (fun p hp => ?_) ?_))⟩⟩)
    · rw [tu_iI_n, ← nI_add]
      rfl
    · have sp := hs p hp
      have sF := hs _ bF
      have sS := hs _ bS
      unfold tu_pt
      dsimp only
      refine ⟨?_, ?_, ?_⟩
      · by_cases c1 : p = S i
        · rw [c1, pk_us]
          by_cases c2 : S i = F i
          · rw [c2, pk_us, if_pos rfl, sF.1, tu_iI_sub, tu_iI_add]
          · rw [pk_un c2, if_neg c2, if_pos rfl, sS.1, tu_iI_sub, Int.add_zero]
        · rw [pk_un c1, if_neg c1, Int.sub_zero]
          by_cases c2 : p = F i
          · rw [c2, pk_us, if_pos rfl, sF.1, tu_iI_add]
          · rw [pk_un c2, if_neg c2, Int.add_zero]
            exact sp.1
      · split <;> split <;> omega
      · split <;> split <;> omega
    · rw [tu_el_s] at hB
      rw [Nat.pow_succ, ← Nat.div_div_eq_div_mul]
      exact hB
theorem yw_bal_i {post : Int32 → SY → Prop} {x1 x2 fm : Int32} (hn : n ≤ 6) (h : ∀ sm', tu_sb n (fun _ => 0) 0 sm' → wY_balanced_2 post x1 x2 (nI n) fm 1 (nI n) Fa Sa lb sm' pl) : ∀ d i sm, i + d = n → tu_sb i (fun _ => 0) 0 sm → wY_balanced_2 post x1 x2 (nI n) fm (d + 1) (nI i) Fa Sa lb sm pl := by
  intro d
  induction d with
  | zero =>
    intro i sm hi hl
    have e : i = n := by omega
    subst e
    exact h sm hl
  | succ d ih =>
    intro i sm hi hl
    refine br_f (nI_ge (by omega) (by omega)) ⟨vp_in_nI (by omega) (by omega), nm_e (nm_r (nI_1 i) (ih (i + 1) _ (by omega) (fun p hp => ?_)))⟩
    rw [nI_clamp (by omega)]
    by_cases c : p = i
    · rw [c, pk_us]; exact ⟨tu_iI_0.symm, Int.le_refl _, Int.le_refl _⟩
    · rw [pk_un c]; exact hl p (by omega)
theorem yw_bal {post : Int32 → SY → Prop} {b c : Nat} (hn : n ≤ 6) (hm : m ≤ 8) (hF : tu_ar n F Fa) (hS : tu_ar n S Sa) (hb : 0 < b ∨ m = 0) (hb2 : b < 4) (hc : c < 2 ^ 31)
    (h1 : ∀ sm', tu_ba n (b + 1) (fun p => p) (tu_nt b (tu_el F S 0 m) c (fun _ => 0)) → post 1 (nI n, nI m, Fa, Sa, lb, sm', pl)) (h0 : ∀ sm', ¬ tu_ba n (b + 1) (fun p => p) (tu_nt b (tu_el F S 0 m) c (fun _ => 0)) → post 0 (nI n, nI m, Fa, Sa, lb, sm', pl)) : wpY_balanced post (nI n, nI m, Fa, Sa, lb, sm, pl) (nI c) (nI (b + 1)) := by
  refine ⟨n + 1, yw_bal_i hn (fun sm' hl => ?_) n 0 sm (by omega) (fun p hp => by omega)⟩
  refine br_t (nI_le (Nat.le_refl _) (by omega)) ⟨m + 1, yw_bal_e hn hm hF hS hb hb2 hc h1 h0 m 0 (fun _ => 0) sm' (by omega) hl ?_⟩
  rw [Nat.pow_zero, Nat.div_one]
theorem yw_flow_l {post : Int32 → SY → Prop} {b N : Nat} (hn : n ≤ 6) (hm : m ≤ 8) (hF : tu_ar n F Fa) (hS : tu_ar n S Sa) (hb : 0 < b ∨ m = 0) (hb2 : b < 4) (hN : N < 2 ^ 31) (h : ∀ sm', post (tu_iI (tu_sm N (fun c => tu_b (tu_ba n (b + 1) (fun p => p) (tu_nt b (tu_el F S 0 m) c (fun _ => 0)))))) (nI n, nI m, Fa, Sa, lb, sm', pl)) :
    ∀ d c sm, c + d = N → wY_flows_29 post (nI (b + 1)) (nI N) (d + 1) (tu_iI (tu_sm c (fun c => tu_b (tu_ba n (b + 1) (fun p => p) (tu_nt b (tu_el F S 0 m) c (fun _ => 0)))))) (nI c) (nI n) (nI m) Fa Sa lb sm pl := by
  intro d
  induction d with
  | zero =>
    intro c sm hc
    have e : c = N := by omega
    subst e
    exact br_t (nI_le (Nat.le_refl _) (by omega)) (h sm)
  | succ d ih =>
    intro c sm hc
    refine br_f (nI_ge (by omega) (by omega)) (yw_bal hn hm hF hS hb hb2 (by omega) (fun sm' z => ?_) (fun sm' z => ?_))
    · have i := ih (c + 1) sm' (by omega)
      rw [tu_sm_s, tu_b_t z, ← tu_iI_s] at i
      exact br_f (by decide) (nm_e (nm_r (nI_1 c) i))
    · have i := ih (c + 1) sm' (by omega)
      rw [tu_sm_s, tu_b_f z, Int.add_zero] at i
      exact br_t rfl (nm_r (nI_1 c) i)
theorem yw_flow {post : Int32 → SY → Prop} {b : Nat} (hn : n ≤ 6) (hm : m ≤ 8) (hF : tu_ar n F Fa) (hS : tu_ar n S Sa) (hb2 : b < 4) (h : ∀ sm', post (tu_iI (tu_fl n (b + 1) (tu_el F S 0 m) (fun p => p))) (nI n, nI m, Fa, Sa, lb, sm', pl)) : wpY_flows post (nI n, nI m, Fa, Sa, lb, sm, pl) (nI (b + 1)) := by
  have h' : ∀ sm', post (tu_iI (tu_sm (b ^ m) (fun c => tu_b (tu_ba n (b + 1) (fun p => p) (tu_nt b (tu_el F S 0 m) c (fun _ => 0)))))) (nI n, nI m, Fa, Sa, lb, sm', pl) := by
    intro sm'
    have q := h sm'
    unfold tu_fl at q
    rw [tu_el_len] at q
    exact q
  have bd : b ^ m ≤ 4 ^ 8 := Nat.le_trans (Nat.pow_le_pow_left (by omega) m) (Nat.pow_le_pow_right (by omega) hm)
  refine br_f (nI_nlt (b := 1) (by omega) (by omega)) (br_t (nI_le (b := 4) (by omega) (by omega)) ?_)
  rw [nI_pred]
  refine yw_power (by omega) ?_
  by_cases hb : 0 < b ∨ m = 0
  · have q := yw_flow_l (N := b ^ m) hn hm hF hS hb hb2 (by omega) h' (b ^ m) 0 sm (by omega)
    rw [tu_sm_0, tu_iI_0] at q
    exact ⟨b ^ m + 1, q⟩
  · have e : b = 0 := by omega
    subst e
    have q := h' sm
    rw [Nat.zero_pow (by omega)] at q ⊢
    rw [tu_sm_0, tu_iI_0] at q
    exact ⟨1, br_t (by decide) q⟩
end
end
section
section
variable {Fa Sa lb sm : Nat → Int32} {pl : Nat → Int64} {n m : Nat} {F S : Nat → Nat}
theorem yw_nc_c {post : Int32 → SY → Prop} {fm : Int32} {l : Nat → Nat} (hn : n ≤ 6) (hl : tu_lb n l lb) (h1 : (∀ p, p < n → l p < n) → post 1 (nI n, fm, Fa, Sa, lb, sm, pl)) (h0 : ¬ (∀ p, p < n → l p < n) → post 0 (nI n, fm, Fa, Sa, lb, sm, pl)) :
    ∀ d i, i + d = n → (∀ p, p < i → l p < n) → wY_noCircle_142 post (nI n) fm Fa Sa lb sm pl (d + 1) (nI i) := by
  intro d
  induction d with
  | zero =>
    intro i hi hq
    have e : i = n := by omega
    subst e
    exact br_t (nI_le (Nat.le_refl _) (by omega)) (h1 hq)
  | succ d ih =>
    intro i hi hq
    have li := hl i (by omega)
    refine br_f (nI_ge (by omega) (by omega)) ⟨vp_in_nI (by omega) (by omega), ?_⟩
    rw [nI_clamp (by omega)]
    refine pk_lt (l i) n (fun c => nm_r (nI_1 i) (ih (i + 1) (by omega) (fun p hp => ?_))) (fun c => h0 (fun z => ?_)) li.1
    · by_cases e : p = i
      · rw [e]; exact c
      · exact hq p (by omega)
    · have y := z i (by omega)
      omega
theorem yw_nc_s {post : Int32 → SY → Prop} {J25 J : Int32 → (Nat → Int32) → (Nat → Int32) → (Nat → Int32) → (Nat → Int32) → (Nat → Int64) → Prop} {x1 x2 fm : Int32} {i s t c : Nat} {l : Nat → Nat} (hn : n ≤ 6) (hs : s < n) (ht : t < n) (hl : tu_lb n l lb) (hc : c < 90) (hb : ∀ p, l p ≤ c)
    (h : ∀ lb', tu_lb n (tu_nc l (s, t)) lb' → J (nI (i + 1)) Fa Sa lb' sm pl) : wY_noCircle_93 post J25 J x1 x2 (nI i) (nI s) (nI t) (nI n) fm Fa Sa lb sm pl := by
  have vs : vp_in (nI s) 6 := vp_in_nI (by omega) (by omega)
  have vt : vp_in (nI t) 6 := vp_in_nI (by omega) (by omega)
  have ls := hl s hs
  have lt := hl t ht
  have bt := hb t
  unfold wY_noCircle_93
  rw [nI_clamp (show s < 2 ^ 31 by omega), nI_clamp (show t < 2 ^ 31 by omega)]
  refine ⟨vs, vt, pk_lt (l t) (l s) (fun g => nm_r (nI_1 i) (h lb (fun p hp => ?_))) (fun g => ⟨vt, vs, nm_e (nm_r (nI_1 i) (h _ (fun p hp => ?_)))⟩) lt.1 ls.1⟩
  · rw [tu_nc_n (fun z => by have := z.1; dsimp only at this; omega)]
    exact hl p hp
  · by_cases e : p = s
    · rw [tu_nc_c g e, e, pk_us, lt.1, nI_1]
      exact ⟨rfl, by dsimp only; omega⟩
    · rw [tu_nc_n (fun z => e z.2), pk_un e]
      exact hl p hp
theorem yw_nc_e {post : Int32 → SY → Prop} {J25 : Int32 → (Nat → Int32) → (Nat → Int32) → (Nat → Int32) → (Nat → Int32) → (Nat → Int64) → Prop} {a r : Nat} (hn : n ≤ 6) (hm : m ≤ 8) (ha : a < 2 ^ 31) (hF : tu_ar n F Fa) (hS : tu_ar n S Sa) :
    ∀ d i l lb c, i + d = m → tu_lb n l lb → (∀ p, l p ≤ c) → c + d < 80 → (∀ lb', tu_lb n (tu_nr (tu_or (tu_el F S i d) (a / 2 ^ i)) l) lb' → (∀ p, tu_nr (tu_or (tu_el F S i d) (a / 2 ^ i)) l p ≤ c + d) → J25 (nI (r + 1)) Fa Sa lb' sm pl) → wY_noCircle_35 post J25 (nI a) (nI r) (nI n) (nI m) (d + 1) (nI i) Fa Sa lb sm pl := by
  intro d
  induction d with
  | zero =>
    intro i l lb c hi hl hb hc h
    exact br_t (nI_le (by omega) (by omega)) (nm_r (nI_1 r) (h lb hl hb))
  | succ d ih =>
    intro i l lb c hi hl hb hc h
    rw [tu_el_s, tu_or, Nat.div_div_eq_div_mul, ← Nat.pow_succ] at h
    have eF := tu_ar_at hF (show i < 100 by omega)
    have eS := tu_ar_at hS (show i < 100 by omega)
    have bF := (hF i).2
    have bS := (hS i).2
    have v9 : vp_in (nI i) 9 := vp_in_nI (by omega) (by omega)
    refine br_f (nI_ge (by omega) (by omega)) ?_
    rw [eF, eS]
    refine yw_in ha (by omega) (fun g => ?_) (fun g => ?_)
    · rw [if_pos g] at h
      refine br_f (by decide) ⟨v9, ?_⟩
      unfold wY_noCircle_67
      rw [eF, eS]
      refine yw_in ha (by omega) (fun _ => br_f (by decide) ⟨v9, ?_⟩) (fun z => absurd g z)
      refine yw_nc_s (c := c) (l := l) hn bS bF hl (by omega) hb (fun lb' hl' => ih (i + 1) (tu_nc l (S i, F i)) lb' (c + 1) (by omega) hl' (tu_nc_bd hb) (by omega) (fun lb'' q1 q2 => h lb'' q1 (fun p => ?_)))
      have q3 := q2 p
      show tu_nr (tu_or (tu_el F S (i + 1) d) (a / 2 ^ (i + 1))) (tu_nc l (S i, F i)) p ≤ c + (d + 1)
      omega
    · rw [if_neg g] at h
      refine br_t rfl ⟨v9, ?_⟩
      unfold wY_noCircle_67
      rw [eF, eS]
      refine yw_in ha (by omega) (fun z => absurd z g) (fun _ => br_t rfl ⟨v9, ?_⟩)
      refine yw_nc_s (c := c) (l := l) hn bF bS hl (by omega) hb (fun lb' hl' => ih (i + 1) (tu_nc l (F i, S i)) lb' (c + 1) (by omega) hl' (tu_nc_bd hb) (by omega) (fun lb'' q1 q2 => h lb'' q1 (fun p => ?_)))
      have q3 := q2 p
      show tu_nr (tu_or (tu_el F S (i + 1) d) (a / 2 ^ (i + 1))) (tu_nc l (F i, S i)) p ≤ c + (d + 1)
      omega
theorem yw_nc_r {post : Int32 → SY → Prop} {a : Nat} (hn : n ≤ 6) (hm : m ≤ 8) (ha : a < 2 ^ 31) (hF : tu_ar n F Fa) (hS : tu_ar n S Sa)
    (h1 : ∀ lb', tu_ac (tu_or (tu_el F S 0 m) a) (fun p => p) → post 1 (nI n, nI m, Fa, Sa, lb', sm, pl)) (h0 : ∀ lb', ¬ tu_ac (tu_or (tu_el F S 0 m) a) (fun p => p) → post 0 (nI n, nI m, Fa, Sa, lb', sm, pl)) :
    ∀ d r l lb, r + d = n + 1 → tu_lb n l lb → (∀ p, l p ≤ 8 * r) → tu_ni (tu_or (tu_el F S 0 m) a) d l = tu_ni (tu_or (tu_el F S 0 m) a) (n + 1) (fun _ => 0) → wY_noCircle_25 post (nI a) (nI n) (nI m) (d + 1) (nI r) Fa Sa lb sm pl := by
  have ac := tu_ni_ac (tu_or_bd a (tu_el_b2 hF hS 0 m))
  intro d
  induction d with
  | zero =>
    intro r l lb hr hl hb hi
    have hi' : l = tu_ni (tu_or (tu_el F S 0 m) a) (n + 1) (fun _ => 0) := hi
    refine br_t (nI_lt (by omega) (by omega)) ⟨n + 1, yw_nc_c (l := l) hn hl (fun z => h1 lb (ac.mp ?_)) (fun z => h0 lb (fun y => z ?_)) n 0 (by omega) (fun p hp => by omega)⟩
    · rw [← hi']; exact z
    · rw [hi']; exact ac.mpr y
  | succ d ih =>
    intro r l lb hr hl hb hi
    refine br_f (nI_nlt (by omega) (by omega)) ⟨m + 1, yw_nc_e hn hm ha hF hS m 0 l lb (8 * r) (by omega) hl hb (by omega) (fun lb' q1 q2 => ?_)⟩
    rw [Nat.pow_zero, Nat.div_one] at q1 q2
    exact ih (r + 1) _ lb' (by omega) q1 (fun p => by have := q2 p; omega) hi
theorem yw_nc_i {post : Int32 → SY → Prop} {x1 fm : Int32} (hn : n ≤ 6) (h : ∀ lb', tu_lb n (fun _ => 0) lb' → wY_noCircle_2 post x1 (nI n) fm 1 (nI n) Fa Sa lb' sm pl) : ∀ d i lb, i + d = n → tu_lb i (fun _ => 0) lb → wY_noCircle_2 post x1 (nI n) fm (d + 1) (nI i) Fa Sa lb sm pl := by
  intro d
  induction d with
  | zero =>
    intro i lb hi hl
    have e : i = n := by omega
    subst e
    exact h lb hl
  | succ d ih =>
    intro i lb hi hl
    refine br_f (nI_ge (by omega) (by omega)) ⟨vp_in_nI (by omega) (by omega), nm_e (nm_r (nI_1 i) (ih (i + 1) _ (by omega) (fun p hp => ?_)))⟩
    rw [nI_clamp (by omega)]
    by_cases c : p = i
    · rw [c, pk_us]; exact ⟨rfl, show 0 < 100 by omega⟩
    · rw [pk_un c]; exact hl p (by omega)
theorem yw_nc {post : Int32 → SY → Prop} {a : Nat} (hn : n ≤ 6) (hm : m ≤ 8) (ha : a < 2 ^ 31) (hF : tu_ar n F Fa) (hS : tu_ar n S Sa)
    (h1 : ∀ lb', tu_ac (tu_or (tu_el F S 0 m) a) (fun p => p) → post 1 (nI n, nI m, Fa, Sa, lb', sm, pl)) (h0 : ∀ lb', ¬ tu_ac (tu_or (tu_el F S 0 m) a) (fun p => p) → post 0 (nI n, nI m, Fa, Sa, lb', sm, pl)) : wpY_noCircle post (nI n, nI m, Fa, Sa, lb, sm, pl) (nI a) := by
  refine ⟨n + 1, yw_nc_i hn (fun lb' hl => ?_) n 0 lb (by omega) (fun p hp => by omega)⟩
  exact br_t (nI_le (Nat.le_refl _) (by omega)) ⟨n + 2, yw_nc_r hn hm ha hF hS h1 h0 (n + 1) 0 (fun _ => 0) lb' (by omega) hl (fun p => by omega) rfl⟩
theorem yw_ac_l {post : Int32 → SY → Prop} (hn : n ≤ 6) (hm : m ≤ 8) (hF : tu_ar n F Fa) (hS : tu_ar n S Sa) (h : ∀ lb', post (tu_iI (tu_ao (tu_el F S 0 m) (fun p => p))) (nI n, nI m, Fa, Sa, lb', sm, pl)) :
    ∀ d a lb, a + d = 2 ^ m → wY_acyclic_4 post (d + 1) (tu_iI (tu_sm a (fun a => tu_b (tu_ac (tu_or (tu_el F S 0 m) a) (fun p => p))))) (nI a) (nI n) (nI m) Fa Sa lb sm pl := by
  have p2 := tu_p2 hm
  intro d
  induction d with
  | zero =>
    intro a lb ha
    have e : a = 2 ^ m := by omega
    rw [wY_acyclic_4]
    refine yw_all hm ?_
    refine br_t (nI_lt (by omega) (by omega)) ?_
    have q := h lb
    unfold tu_ao at q
    rw [tu_el_len] at q
    rw [e]
    exact q
  | succ d ih =>
    intro a lb ha
    rw [wY_acyclic_4]
    refine yw_all hm ?_
    refine br_f (nI_nlt (by omega) (by omega)) (yw_nc hn hm (by omega) hF hS (fun lb' z => ?_) (fun lb' z => ?_))
    · have i := ih (a + 1) lb' (by omega)
      rw [tu_sm_s, tu_b_t z, ← tu_iI_s] at i
      exact br_f (by decide) (nm_e (nm_r (nI_1 a) i))
    · have i := ih (a + 1) lb' (by omega)
      rw [tu_sm_s, tu_b_f z, Int.add_zero] at i
      exact br_t rfl (nm_r (nI_1 a) i)
theorem yw_ac {post : Int32 → SY → Prop} (hn : n ≤ 6) (hm : m ≤ 8) (hF : tu_ar n F Fa) (hS : tu_ar n S Sa) (h : ∀ lb', post (tu_iI (tu_ao (tu_el F S 0 m) (fun p => p))) (nI n, nI m, Fa, Sa, lb', sm, pl)) : wpY_acyclic post (nI n, nI m, Fa, Sa, lb, sm, pl) := by
  refine ⟨2 ^ m + 1, ?_⟩
  have q := yw_ac_l (Fa := Fa) (Sa := Sa) (F := F) (S := S) hn hm hF hS h (2 ^ m) 0 lb (by omega)
  rw [tu_sm_0, tu_iI_0] at q
  exact q
end
end
section
theorem tu_0p (p : Nat) : ((1 : Int) - 1) ^ p = tu_b (p = 0) := by
  rw [show ((1 : Int) - 1) = 0 from rfl]
  by_cases h : p = 0
  · rw [tu_b_t h, h]; rfl
  · rw [tu_b_f h, Int.zero_pow h]
theorem tu_1p (p : Nat) : ((2 : Int) - 1) ^ p = 1 := by
  rw [show ((2 : Int) - 1) = 1 from rfl]
  exact Int.one_pow
theorem tu_or1 (p : Nat) : tu_b ((1 : Int32) = 0 ∨ p = 0) = tu_b (p = 0) := tu_b_iff ⟨fun z => z.elim (fun y => absurd y (by decide)) (fun y => y), fun z => Or.inr z⟩
theorem tu_or0 (p : Nat) : tu_b ((0 : Int32) = 0 ∨ p = 0) = 1 := tu_b_t (Or.inl rfl)
theorem tu_trees (n : Nat) (es : List (Nat × Nat)) (L : Nat → Nat) : tu_T n (fun p q => tu_b (((1 : Int32) = 0 ∨ p = 0) ∧ ((1 : Int32) = 0 ∨ q = 0))) es L = tu_T n (fun p q => ((1 : Int) - 1) ^ p * ((1 : Int) - 1) ^ q) es L := by
  congr 1
  funext p q
  rw [tu_b_and, tu_or1, tu_or1, tu_0p, tu_0p]
theorem tu_forests (n : Nat) (es : List (Nat × Nat)) (L : Nat → Nat) : tu_T n (fun p q => tu_b (((0 : Int32) = 0 ∨ p = 0) ∧ ((1 : Int32) = 0 ∨ q = 0))) es L = tu_T n (fun p q => ((2 : Int) - 1) ^ p * ((1 : Int) - 1) ^ q) es L := by
  congr 1
  funext p q
  rw [tu_b_and, tu_or0, tu_or1, tu_1p, tu_0p]
theorem tu_spanning (n : Nat) (es : List (Nat × Nat)) (L : Nat → Nat) : tu_T n (fun p q => tu_b (((1 : Int32) = 0 ∨ p = 0) ∧ ((0 : Int32) = 0 ∨ q = 0))) es L = tu_T n (fun p q => ((1 : Int) - 1) ^ p * ((2 : Int) - 1) ^ q) es L := by
  congr 1
  funext p q
  rw [tu_b_and, tu_or1, tu_or0, tu_0p, tu_1p]
theorem tu_acyclic {n : Nat} {es : List (Nat × Nat)} (hb : tu_bd n es) : tu_ao es (fun p => p) = tu_T n (fun p q => ((2 : Int) - 1) ^ p * ((0 : Int) - 1) ^ q) es (fun p => p) := by
  rw [tu_ao_ss es _ tu_id_ok hb]
  unfold tu_T
  apply tu_ss_congr
  intro A _ _
  dsimp only
  rw [tu_1p, Int.one_mul]
  rfl
theorem tu_sgn (t : Nat) (z : Int) : (-1) ^ t * z = if t % 2 = 0 then z else -z := by
  by_cases h : t % 2 = 0
  · rw [if_pos h, show t = 0 + 2 * (t / 2) from by omega, tu_m1, Int.pow_zero, Int.one_mul]
  · rw [if_neg h, show t = 1 + 2 * (t / 2) from by omega, tu_m1, show ((-1 : Int) ^ 1) = -1 from rfl, Int.neg_mul, Int.one_mul]
section
variable {rd wt : Int32} {Fa Sa tm we wp wx wy : Nat → Int32} {n m : Nat} {F S : Nat → Nat}
theorem xw_col_l {post : Int32 → SX → Prop} {fe : Int32} {k c : Nat} {V : Int} (hn : n ≤ 6) (hc : c ≤ n) (h : post (tu_iI ((-1) ^ (n - c) * ((k : Int) ^ c * V))) (nI n, fe, rd, wt, Fa, Sa, tm, we, wp, wx, wy)) :
    ∀ d i, i + d = c → wX_colourings_29 post (nI k) (nI c) (nI n) fe rd wt Fa Sa tm we wp wx wy (d + 1) (tu_iI ((k : Int) ^ i * V)) (nI i) := by
  intro d
  induction d with
  | zero =>
    intro i hi
    have e : i = c := by omega
    subst e
    refine br_t (nI_le (Nat.le_refl _) (by omega)) ?_
    rw [pk_sub hc, pk_andN (show n - i < 2 ^ 32 by omega) 1 (by decide)]
    rw [tu_sgn] at h
    refine pk_eq (x := nI ((n - i) % 2 ^ 1)) (y := 0) ((n - i) % 2 ^ 1) 0 (fun g => ?_) (fun g => ?_)
    · rw [if_pos g] at h
      exact h
    · rw [if_neg g, tu_iI_neg] at h
      exact h
  | succ d ih =>
    intro i hi
    refine br_f (nI_ge (by omega) (by omega)) (nm_r (e' := tu_iI ((k : Int) ^ (i + 1) * V)) ?_ (nm_r (nI_1 i) (ih (i + 1) (by omega))))
    rw [← tu_iI_n, ← tu_iI_mul, Int.pow_succ, Int.mul_assoc, Int.mul_comm V, ← Int.mul_assoc]
theorem xw_col {post : Int32 → SX → Prop} {k : Nat} (hn : n ≤ 6) (hm : m ≤ 8) (hF : tu_ar n F Fa) (hS : tu_ar n S Sa) (hr : rd = 0 ∨ tu_gd F S m tm) (hk : k ≤ 6)
    (h : ∀ rd' wt' tm' we' wp' wx' wy', tu_gd F S m tm' → post (tu_iI ((-1) ^ (n - tu_fx n (tu_fd (tu_el F S 0 m) (fun p => p))) * ((k : Int) ^ tu_fx n (tu_fd (tu_el F S 0 m) (fun p => p)) * tu_T n (fun p q => ((1 - (k : Int)) - 1) ^ p * (0 - 1) ^ q) (tu_el F S 0 m) (fun p => p)))) (nI n, nI m, rd', wt', Fa, Sa, tm', we', wp', wx', wy')) : wpX_colourings post (nI n, nI m, rd, wt, Fa, Sa, tm, we, wp, wx, wy) (nI k) := by
  refine br_f (nI_pos (by omega)) (br_t (nI_le (b := 6) (by omega) (by omega)) ?_)
  refine xw_parts hn hm hF hS ?_
  refine xw_val (1 - (k : Int)) 0 ?_ tu_iI_0.symm hn hm hF hS hr (fun rd' wt' tm' we' wp' wx' wy' hg => ?_)
  · rw [tu_iI_sub, tu_iI_1, tu_iI_n]
  · have q := xw_col_l (post := post) (fe := nI m) (rd := rd') (wt := wt') (Fa := Fa) (Sa := Sa) (tm := tm') (we := we') (wp := wp') (wx := wx') (wy := wy') hn (tu_fx_le n (tu_fd (tu_el F S 0 m) (fun p => p))) (h rd' wt' tm' we' wp' wx' wy' hg) (tu_fx n (tu_fd (tu_el F S 0 m) (fun p => p))) 0 (by omega)
    rw [Int.pow_zero, Int.one_mul] at q
    exact ⟨_, q⟩
theorem xw_flow {post : Int32 → SX → Prop} {k : Nat} (hn : n ≤ 6) (hm : m ≤ 8) (hF : tu_ar n F Fa) (hS : tu_ar n S Sa) (hr : rd = 0 ∨ tu_gd F S m tm) (hk1 : 1 ≤ k) (hk : k ≤ 4)
    (h : ∀ rd' wt' tm' we' wp' wx' wy', tu_gd F S m tm' → post (tu_iI ((-1) ^ (m + tu_fx n (tu_fd (tu_el F S 0 m) (fun p => p)) - n) * tu_T n (fun p q => (0 - 1) ^ p * ((1 - (k : Int)) - 1) ^ q) (tu_el F S 0 m) (fun p => p))) (nI n, nI m, rd', wt', Fa, Sa, tm', we', wp', wx', wy')) : wpX_flows post (nI n, nI m, rd, wt, Fa, Sa, tm, we, wp, wx, wy) (nI k) := by
  have ae := tu_fx_fd (n := n) (A := tu_el F S 0 m) (L := fun p => p) tu_id_ok (tu_el_b2 hF hS 0 m)
  rw [tu_fx_id, tu_el_len] at ae
  refine br_f (nI_nlt (b := 1) (by omega) (by omega)) (br_t (nI_le (b := 4) (by omega) (by omega)) ?_)
  refine xw_parts hn hm hF hS ?_
  refine xw_val 0 (1 - (k : Int)) tu_iI_0.symm ?_ hn hm hF hS hr (fun rd' wt' tm' we' wp' wx' wy' hg => ?_)
  · rw [tu_iI_sub, tu_iI_1, tu_iI_n]
  · have q := h rd' wt' tm' we' wp' wx' wy' hg
    have e : nI m - nI n + nI (tu_fx n (tu_fd (tu_el F S 0 m) (fun p => p))) = nI (m + tu_fx n (tu_fd (tu_el F S 0 m) (fun p => p)) - n) := by
      rw [← pk_sub (show n ≤ m + tu_fx n (tu_fd (tu_el F S 0 m) (fun p => p)) by omega), ← nI_add]
      generalize nI m = a1, nI n = a2, nI (tu_fx n (tu_fd (tu_el F S 0 m) (fun p => p))) = a3
      grind
    dsimp only
    rw [e, pk_andN (by omega) 1 (by decide)]
    rw [tu_sgn] at q
    refine pk_eq (x := nI ((m + tu_fx n (tu_fd (tu_el F S 0 m) (fun p => p)) - n) % 2 ^ 1)) (y := 0) ((m + tu_fx n (tu_fd (tu_el F S 0 m) (fun p => p)) - n) % 2 ^ 1) 0 (fun g => ?_) (fun g => ?_)
    · rw [if_pos g] at q
      exact q
    · rw [if_neg g, tu_iI_neg] at q
      exact q
theorem xw_coef {post : Int32 → SX → Prop} {x y : Nat} (hn : n ≤ 6) (hm : m ≤ 8) (hF : tu_ar n F Fa) (hS : tu_ar n S Sa) (hr : rd = 0 ∨ tu_gd F S m tm) (hx : x < 9) (hy : y < 9)
    (h : ∀ rd' wt' tm' we' wp' wx' wy', tu_gd F S m tm' → post (tu_iI (tu_T n (fun p q => tu_qc 0 p x * tu_qc 0 q y) (tu_el F S 0 m) (fun p => p))) (nI n, nI m, rd', wt', Fa, Sa, tm', we', wp', wx', wy')) : wpX_coefficient post (nI n, nI m, rd, wt, Fa, Sa, tm, we, wp, wx, wy) (nI x) (nI y) := by
  refine br_f (nI_pos (by omega)) (br_f (nI_nlt (a := 8) (by omega) (by omega)) (br_f (nI_pos (by omega)) (br_t (nI_le (b := 8) (by omega) (by omega)) ?_)))
  refine xw_find hn hm hF hS hr (fun rd' wt' tm' we' wp' wx' wy' hg => ?_)
  have e9 : (9 : Int32) * nI x + nI y = nI (9 * x + y) := by rw [show (9 : Int32) = nI 9 from rfl, pk_mul, nI_add]
  have q := h rd' wt' tm' we' wp' wx' wy' hg
  rw [← tu_cf_T x y (tu_el F S 0 m) (fun p => p) 0 0 tu_id_ok (tu_el_b2 hF hS 0 m)] at q
  dsimp only
  rw [e9, nI_clamp (by omega), hg x y hx hy]
  exact ⟨vp_in_nI (by omega) (by omega), q⟩
end
end
section
theorem gr_upd {n i x : Nat} {F : Nat → Nat} {Fa : Nat → Int32} (h : tu_ar n F Fa) (hx : x < n) : tu_ar n (fun e => if e = i then x else F e) (upd Fa i (nI x)) := by
  intro e
  by_cases c : e = i
  · rw [c, pk_us]
    dsimp only
    rw [if_pos rfl]
    exact ⟨rfl, hx⟩
  · rw [pk_un c]
    dsimp only
    rw [if_neg c]
    exact h e
theorem gr_drop {n M : Nat} (hn : n ≤ 6) (hM : M < 8) : ∀ d i F S Fa Sa, i + d = M → tu_ar n F Fa → tu_ar n S Sa → ∃ (F' S' : Nat → Nat) (Fa' Sa' : Nat → Int32), tu_ar n F' Fa' ∧ tu_ar n S' Sa' ∧
    (∀ (post : Int32 → SX → Prop) (fn rd wt : Int32) (tm we wp wx wy : Nat → Int32), post (nI M) (fn, nI M, 0, wt, Fa', Sa', tm, we, wp, wx, wy) → wX_drop_26 post fn (nI M) rd wt (d + 1) (nI i) Fa Sa tm we wp wx wy) ∧
    (∀ (post : Int32 → SY → Prop) (fn : Int32) (lb sm : Nat → Int32) (pl : Nat → Int64), post (nI M) (fn, nI M, Fa', Sa', lb, sm, pl) → wY_drop_12 post fn (nI (M + 1)) (d + 1) (nI i) Fa Sa lb sm pl) := by
  intro d
  induction d with
  | zero =>
    intro i F S Fa Sa hi hF hS
    refine ⟨F, S, Fa, Sa, hF, hS, fun post fn rd wt tm we wp wx wy h => ?_, fun post fn lb sm pl h => ?_⟩
    · exact br_t (nI_le (by omega) (by omega)) h
    · refine br_t ?_ (nm_r (nI_pred M) h)
      rw [nI_pred]
      exact nI_le (by omega) (by omega)
  | succ d ih =>
    intro i F S Fa Sa hi hF hS
    have f1 := hF (i + 1)
    have s1 := hS (i + 1)
    obtain ⟨F', S', Fa', Sa', a1, a2, kX, kY⟩ := ih (i + 1) _ _ _ _ (by omega) (gr_upd (i := i) hF f1.2) (gr_upd (i := i) hS s1.2)
    refine ⟨F', S', Fa', Sa', a1, a2, fun post fn rd wt tm we wp wx wy h => ?_, fun post fn lb sm pl h => ?_⟩
    · have v1 : vp_in (nI (i + 1)) 8 := vp_in_nI (by omega) (by omega)
      have v2 : vp_in (nI i) 8 := vp_in_nI (by omega) (by omega)
      refine br_f (nI_ge (by omega) (by omega)) ?_
      rw [nI_1, nI_clamp (show i < 2 ^ 31 by omega), nI_clamp (show i + 1 < 2 ^ 31 by omega), f1.1, s1.1, tu_nb0 (by omega), tu_nb0 (by omega)]
      exact ⟨v1, v2, nm_e ⟨v1, v2, nm_e (nm_e (kX post fn rd wt tm we wp wx wy h))⟩⟩
    · have v1 : vp_in (nI (i + 1)) 9 := vp_in_nI (by omega) (by omega)
      have v2 : vp_in (nI i) 9 := vp_in_nI (by omega) (by omega)
      refine br_f ?_ ?_
      · rw [nI_pred]
        exact nI_ge (by omega) (by omega)
      · rw [nI_1, nI_clamp (show i < 2 ^ 31 by omega), nI_clamp (show i + 1 < 2 ^ 31 by omega), f1.1, s1.1]
        exact ⟨v1, v2, nm_e ⟨v1, v2, nm_e (nm_e (kY post fn lb sm pl h))⟩⟩
theorem gr_merge {n M lo hi : Nat} (hn : n ≤ 6) (hM : M < 8) (hlo : lo < n) (hhi : hi < n) : ∀ d i F S Fa Sa, i + d = M → tu_ar n F Fa → tu_ar n S Sa → ∃ (F' S' : Nat → Nat) (Fa' Sa' : Nat → Int32), tu_ar n F' Fa' ∧ tu_ar n S' Sa' ∧
    (∀ (post : Int32 → SX → Prop) (fn rd wt : Int32) (tm we wp wx wy : Nat → Int32), post (nI M) (fn, nI M, rd, wt, Fa', Sa', tm, we, wp, wx, wy) → wX_merge_61 post (nI lo) (nI hi) fn (nI M) rd wt (d + 1) (nI i) Fa Sa tm we wp wx wy) ∧
    (∀ (post : Int32 → SY → Prop) (fn : Int32) (lb sm : Nat → Int32) (pl : Nat → Int64), post (nI M) (fn, nI M, Fa', Sa', lb, sm, pl) → wY_merge_81 post (nI lo) (nI hi) fn (nI M) (d + 1) (nI i) Fa Sa lb sm pl) := by
  intro d
  induction d with
  | zero =>
    intro i F S Fa Sa hi' hF hS
    refine ⟨F, S, Fa, Sa, hF, hS, fun post fn rd wt tm we wp wx wy h => ?_, fun post fn lb sm pl h => ?_⟩
    · exact br_t (nI_le (by omega) (by omega)) h
    · exact br_t (nI_le (by omega) (by omega)) h
  | succ d ih =>
    intro i F S Fa Sa hi' hF hS
    have f1 := hF i
    have s1 := hS i
    have cl : (nI i).toNatClampNeg = i := nI_clamp (by omega)
    have nb : vp_nar .byte (nI lo).toInt8.toInt32 = nI lo := tu_nb (by omega)
    have v8 : vp_in (nI i) 8 := vp_in_nI (by omega) (by omega)
    have v9 : vp_in (nI i) 9 := vp_in_nI (by omega) (by omega)
    obtain ⟨G, Ga, hG, gX, gY⟩ : ∃ (G : Nat → Nat) (Ga : Nat → Int32), tu_ar n G Ga ∧ (F i = hi → Ga = upd Fa i (nI lo)) ∧ (¬ F i = hi → Ga = Fa) := by
      by_cases c : F i = hi
      · exact ⟨_, _, gr_upd (i := i) hF hlo, fun _ => rfl, fun z => absurd c z⟩
      · exact ⟨F, Fa, hF, fun z => absurd z c, fun _ => rfl⟩
    obtain ⟨T, Ta, hT, tX, tY⟩ : ∃ (T : Nat → Nat) (Ta : Nat → Int32), tu_ar n T Ta ∧ (S i = hi → Ta = upd Sa i (nI lo)) ∧ (¬ S i = hi → Ta = Sa) := by
      by_cases c : S i = hi
      · exact ⟨_, _, gr_upd (i := i) hS hlo, fun _ => rfl, fun z => absurd c z⟩
      · exact ⟨S, Sa, hS, fun z => absurd z c, fun _ => rfl⟩
    obtain ⟨F', S', Fa', Sa', a1, a2, kX, kY⟩ := ih (i + 1) G T Ga Ta (by omega) hG hT
    refine ⟨F', S', Fa', Sa', a1, a2, fun post fn rd wt tm we wp wx wy h => ?_, fun post fn lb sm pl h => ?_⟩
    · have k := kX post fn rd wt tm we wp wx wy h
      have mid : wX_merge_92 post (wX_merge_61 post (nI lo) (nI hi) fn (nI M) rd wt (d + 1)) (nI lo) (nI hi) (nI i) fn (nI M) rd wt Ga Sa tm we wp wx wy := by
        unfold wX_merge_92
        rw [cl, s1.1, nb]
        refine ⟨v8, pk_eq (S i) hi (fun c => ⟨v8, nm_e (nm_r (nI_1 i) ?_)⟩) (fun c => nm_r (nI_1 i) ?_)⟩
        · rw [← tX c]; exact k
        · rw [← tY c]; exact k
      refine br_f (nI_ge (by omega) (by omega)) ?_
      rw [cl, f1.1, nb]
      refine ⟨v8, pk_eq (F i) hi (fun c => ⟨v8, nm_e ?_⟩) (fun c => ?_)⟩
      · rw [← gX c]; exact mid
      · rw [← gY c]; exact mid
    · have k := kY post fn lb sm pl h
      have mid : wY_merge_109 post (wY_merge_81 post (nI lo) (nI hi) fn (nI M) (d + 1)) (nI lo) (nI hi) (nI i) fn (nI M) Ga Sa lb sm pl := by
        unfold wY_merge_109
        rw [cl, s1.1]
        refine ⟨v9, pk_eq (S i) hi (fun c => ⟨v9, nm_e (nm_r (nI_1 i) ?_)⟩) (fun c => nm_r (nI_1 i) ?_)⟩
        · rw [← tX c]; exact k
        · rw [← tY c]; exact k
      refine br_f (nI_ge (by omega) (by omega)) ?_
      rw [cl, f1.1]
      refine ⟨v9, pk_eq (F i) hi (fun c => ⟨v9, nm_e ?_⟩) (fun c => ?_)⟩
      · rw [← gX c]; exact mid
      · rw [← gY c]; exact mid
section
variable {Fa Sa lb sm : Nat → Int32} {pl : Nat → Int64} {n m : Nat}
theorem yw_pt_lo {post : Int32 → Prop} {fn fm p : Int32} (hp : p < 0) (h : post 0) : wpY_isPoint post (fn, fm, Fa, Sa, lb, sm, pl) p := br_t hp h
theorem yw_pt_hi {post : Int32 → Prop} {fm p : Int32} (hp : ¬ p < 0) (hq : nI n ≤ p) (h : post 0) : wpY_isPoint post (nI n, fm, Fa, Sa, lb, sm, pl) p := br_f hp (br_t hq h)
theorem yw_pt_in {post : Int32 → Prop} {fm : Int32} {j : Nat} (hj : j < n) (hn : n ≤ 6) (h : post 1) : wpY_isPoint post (nI n, fm, Fa, Sa, lb, sm, pl) (nI j) := br_f (nI_pos (by omega)) (br_f (nI_ge hj (by omega)) h)
theorem yw_ed_lo {post : Int32 → Prop} {fn fm p : Int32} (hp : p < 0) (h : post 0) : wpY_isEdge post (fn, fm, Fa, Sa, lb, sm, pl) p := br_t hp h
theorem yw_ed_hi {post : Int32 → Prop} {fn p : Int32} (hp : ¬ p < 0) (hq : nI m ≤ p) (h : post 0) : wpY_isEdge post (fn, nI m, Fa, Sa, lb, sm, pl) p := br_f hp (br_t hq h)
theorem yw_ed_in {post : Int32 → Prop} {fn : Int32} {j : Nat} (hj : j < m) (hm : m ≤ 8) (h : post 1) : wpY_isEdge post (fn, nI m, Fa, Sa, lb, sm, pl) (nI j) := br_f (nI_pos (by omega)) (br_f (nI_ge hj (by omega)) h)
end
theorem gr_pos {p : Int32} {n : Nat} (hn : n < 2 ^ 31) (h : nI n ≤ p) : ¬ p < 0 := by
  intro z
  have a := nI_pos' hn
  exact absurd (Int32.le_trans a h) (Int32.not_le.mpr z)
theorem gr_nlt {p : Int32} {n : Nat} (h : nI n ≤ p) : ¬ p < nI n := fun z => absurd h (Int32.not_le.mpr z)
end
section
def i_Rel (_ : Nat) (u : SX) (v : SY) : Prop := match u, v with
  | (fn, fm, rd, _, Fa, Sa, tm, _, _, _, _), (gn, gm, Ga, Ta, _, _, _) => gn = fn ∧ gm = fm ∧ Ga = Fa ∧ Ta = Sa ∧ ∃ (n m : Nat) (F S : Nat → Nat), fn = nI n ∧ fm = nI m ∧ 1 ≤ n ∧ n ≤ 6 ∧ m ≤ 8 ∧ tu_ar n F Fa ∧ tu_ar n S Sa ∧ (rd = 0 ∨ tu_gd F S m tm)
theorem gr_mk {k n m : Nat} {F S : Nat → Nat} {rd wt : Int32} {Fa Sa tm we wp wx wy lb sm : Nat → Int32} {pl : Nat → Int64} (h1 : 1 ≤ n) (hn : n ≤ 6) (hm : m ≤ 8) (hF : tu_ar n F Fa) (hS : tu_ar n S Sa) (hr : rd = 0 ∨ tu_gd F S m tm) : i_Rel k (nI n, nI m, rd, wt, Fa, Sa, tm, we, wp, wx, wy) (nI n, nI m, Fa, Sa, lb, sm, pl) :=
  ⟨rfl, rfl, rfl, rfl, n, m, F, S, rfl, rfl, h1, hn, hm, hF, hS, hr⟩
theorem gr_el {k : Nat} {P : SX → SY → Prop} (h : ∀ (n m : Nat) (F S : Nat → Nat) (rd wt : Int32) (Fa Sa tm we wp wx wy lb sm : Nat → Int32) (pl : Nat → Int64), 1 ≤ n → n ≤ 6 → m ≤ 8 → tu_ar n F Fa → tu_ar n S Sa → (rd = 0 ∨ tu_gd F S m tm) → P (nI n, nI m, rd, wt, Fa, Sa, tm, we, wp, wx, wy) (nI n, nI m, Fa, Sa, lb, sm, pl)) {u : SX} {v : SY} (I : i_Rel k u v) : P u v := by
  obtain ⟨f1, f2, f3, f4, f5, f6, f7, f8, f9, f10, f11⟩ := u
  obtain ⟨g1, g2, g3, g4, g5, g6, g7⟩ := v
  obtain ⟨e1, e2, e3, e4, n, m, F, S, e5, e6, h1, hn, hm, hF, hS, hr⟩ := I
  subst e1 e2 e3 e4 e5 e6
  exact h n m F S _ _ _ _ _ _ _ _ _ _ _ _ h1 hn hm hF hS hr
theorem i_up {k : Nat} {u : SX} {v : SY} (h : i_Rel k u v) : i_Rel (k + 3) u v := h
theorem gr_zero {k n : Nat} (h1 : 1 ≤ n) (hn : n ≤ 6) : i_Rel k (nI n, 0, 0, 0, (fun _ => 0), (fun _ => 0), (fun _ => 0), (fun _ => 0), (fun _ => 0), (fun _ => 0), (fun _ => 0)) (nI n, 0, (fun _ => 0), (fun _ => 0), (fun _ => 0), (fun _ => 0), (fun _ => 0)) :=
  gr_mk (m := 0) (F := fun _ => 0) (S := fun _ => 0) h1 hn (by omega) (fun _ => ⟨rfl, h1⟩) (fun _ => ⟨rfl, h1⟩) (Or.inl rfl)
theorem i_vc0 (k0 : Int32) : wpX_init (fun u => wpY_init (fun v => i_Rel 1 u v) k0) k0 := by
  by_cases h1 : 1 ≤ k0
  · by_cases h6 : k0 ≤ 6
    · obtain ⟨j, hj, rfl⟩ := nI_of2 (x := k0) (M := 6) (n := 6) (by decide) (fun z => absurd (Int32.le_trans (show (0 : Int32) ≤ 1 by decide) h1) (Int32.not_le.mpr z)) h6
      have j1 : 1 ≤ j := by
        have y := (nI_leI (a := 1) (b := j) (by omega) (by omega)).mp h1
        exact y
      exact br_t h1 (br_t h6 (br_t h1 (br_t h6 (gr_zero j1 hj))))
    · exact br_t h1 (br_f h6 (br_t h1 (br_f h6 (gr_zero (n := 6) (by omega) (by omega)))))
  · exact br_f h1 (br_f h1 (gr_zero (n := 1) (by omega) (by omega)))
theorem i_vc_add {k : Nat} {u : SX} {v : SY} (I : i_Rel k u v) (hk : k + 3 ≤ 1537) (v1 : Int32) (v2 : Int32) : wpX_add (fun r u' => wpY_add (fun r' v' => r' = r ∧ i_Rel (k + 3) u' v') v v1 v2) u v1 v2 := by
  refine gr_el (P := fun u v => wpX_add (fun r u' => wpY_add (fun r' v' => r' = r ∧ i_Rel (k + 3) u' v') v v1 v2) u v1 v2) ?_ I
  intro n m F S rd wt Fa Sa tm we wp wx wy lb sm pl h1 hn hm hF hS hr
  have keep : ∀ r : Int32, r = r ∧ i_Rel (k + 3) (nI n, nI m, rd, wt, Fa, Sa, tm, we, wp, wx, wy) (nI n, nI m, Fa, Sa, lb, sm, pl) := fun r => ⟨rfl, gr_mk h1 hn hm hF hS hr⟩
  by_cases m8 : m = 8
  · subst m8
    exact br_f (by decide) (br_t rfl (keep _))
  · have a1 : nI m < 8 := nI_lt (b := 8) (by omega) (by omega)
    have a2 : ¬ nI m = 8 := fun z => by
      have y := (nI_eq (a := m) (b := 8) (by omega) (by omega)).mp z
      omega
    rcases pk_ix v1 (n := n) (by omega) with c | c | ⟨x, hx, rfl⟩
    · exact br_t a1 (br_t c (br_f a2 (yw_pt_lo c (br_t rfl (keep _)))))
    · exact br_t a1 (br_f (gr_pos (by omega) c) (br_t c (br_f a2 (yw_pt_hi (gr_pos (by omega) c) c (br_t rfl (keep _))))))
    · have b1 : ¬ nI x < 0 := nI_pos (by omega)
      have b2 : ¬ nI n ≤ nI x := nI_ge hx (by omega)
      rcases pk_ix v2 (n := n) (by omega) with c | c | ⟨y, hy, rfl⟩
      · exact br_t a1 (br_f b1 (br_f b2 (br_t c (br_f a2 (yw_pt_in hx hn (br_f (by decide) (yw_pt_lo c (br_t rfl (keep _)))))))))
      · exact br_t a1 (br_f b1 (br_f b2 (br_f (gr_pos (by omega) c) (br_f (gr_nlt c) (br_f a2 (yw_pt_in hx hn (br_f (by decide) (yw_pt_hi (gr_pos (by omega) c) c (br_t rfl (keep _))))))))))
      · have b3 : ¬ nI y < 0 := nI_pos (by omega)
        have b4 : nI y < nI n := nI_lt hy (by omega)
        have cl : (nI m).toNatClampNeg = m := nI_clamp (by omega)
        have i8 : vp_in (nI m) 8 := vp_in_nI (by omega) (by omega)
        have i9 : vp_in (nI m) 9 := vp_in_nI (by omega) (by omega)
        refine br_t a1 (br_f b1 (br_f b2 (br_f b3 (br_t b4 ⟨i8, nm_r (e' := upd Fa m (nI x)) ?_ ⟨i8, nm_r (e' := upd Sa m (nI y)) ?_ (nm_r (nI_1 m) ?_)⟩⟩))))
        · rw [cl, tu_nb (by omega)]
        · rw [cl, tu_nb (by omega)]
        · refine br_f a2 (yw_pt_in hx hn (br_f (by decide) (yw_pt_in hy hn (br_f (by decide) ⟨i9, nm_r (e' := upd Fa m (nI x)) ?_ ⟨i9, nm_r (e' := upd Sa m (nI y)) ?_ (nm_r (nI_1 m) ⟨rfl, ?_⟩)⟩⟩))))
          · rw [cl]
          · rw [cl]
          · exact gr_mk h1 hn (by omega) (gr_upd hF hx) (gr_upd hS hy) (Or.inl rfl)
theorem i_vc_drop {k : Nat} {u : SX} {v : SY} (I : i_Rel k u v) (hk : k + 3 ≤ 1537) (v1 : Int32) : wpX_drop (fun r u' => wpY_drop (fun r' v' => r' = r ∧ i_Rel (k + 3) u' v') v v1) u v1 := by
  refine gr_el (P := fun u v => wpX_drop (fun r u' => wpY_drop (fun r' v' => r' = r ∧ i_Rel (k + 3) u' v') v v1) u v1) ?_ I
  intro n m F S rd wt Fa Sa tm we wp wx wy lb sm pl h1 hn hm hF hS hr
  have keep : ∀ r : Int32, r = r ∧ i_Rel (k + 3) (nI n, nI m, rd, wt, Fa, Sa, tm, we, wp, wx, wy) (nI n, nI m, Fa, Sa, lb, sm, pl) := fun r => ⟨rfl, gr_mk h1 hn hm hF hS hr⟩
  rcases pk_ix v1 (n := m) (by omega) with c | c | ⟨i, hi, rfl⟩
  · refine br_t c ?_
    unfold wpY_drop
    dsimp only
    exact yw_ed_lo c (br_t rfl (keep _))
  · refine br_f (gr_pos (by omega) c) (br_f (gr_nlt c) ?_)
    unfold wpY_drop
    dsimp only
    exact yw_ed_hi (gr_pos (by omega) c) c (br_t rfl (keep _))
  · obtain ⟨M, rfl⟩ : ∃ M, m = M + 1 := ⟨m - 1, by omega⟩
    obtain ⟨F', S', Fa', Sa', a1, a2, kX, kY⟩ := gr_drop (n := n) (M := M) hn (by omega) (M - i) i F S Fa Sa (by omega) hF hS
    refine br_f (nI_pos (by omega)) (br_t (nI_lt hi (by omega)) (nm_r (nI_pred M) ⟨_, kX _ _ _ _ _ _ _ _ _ ?_⟩))
    unfold wpY_drop
    dsimp only
    refine yw_ed_in hi hm (br_f (by decide) ⟨_, kY _ _ _ _ _ ⟨rfl, ?_⟩⟩)
    exact gr_mk h1 hn (by omega) a1 a2 (Or.inl rfl)
theorem i_vc_merge {k : Nat} {u : SX} {v : SY} (I : i_Rel k u v) (hk : k + 3 ≤ 1537) (v1 : Int32) : wpX_merge (fun r u' => wpY_merge (fun r' v' => r' = r ∧ i_Rel (k + 3) u' v') v v1) u v1 := by
  refine gr_el (P := fun u v => wpX_merge (fun r u' => wpY_merge (fun r' v' => r' = r ∧ i_Rel (k + 3) u' v') v v1) u v1) ?_ I
  intro n m F S rd wt Fa Sa tm we wp wx wy lb sm pl h1 hn hm hF hS hr
  have keep : ∀ r : Int32, r = r ∧ i_Rel (k + 3) (nI n, nI m, rd, wt, Fa, Sa, tm, we, wp, wx, wy) (nI n, nI m, Fa, Sa, lb, sm, pl) := fun r => ⟨rfl, gr_mk h1 hn hm hF hS hr⟩
  rcases pk_ix v1 (n := m) (by omega) with c | c | ⟨i, hi, rfl⟩
  · refine br_t c ?_
    unfold wpY_merge
    dsimp only
    exact yw_ed_lo c (br_t rfl (keep _))
  · refine br_f (gr_pos (by omega) c) (br_f (gr_nlt c) ?_)
    unfold wpY_merge
    dsimp only
    exact yw_ed_hi (gr_pos (by omega) c) c (br_t rfl (keep _))
  · obtain ⟨M, rfl⟩ : ∃ M, m = M + 1 := ⟨m - 1, by omega⟩
    have eF := tu_ar_at hF (show i < 100 by omega)
    have eS := tu_ar_at hS (show i < 100 by omega)
    have bF := (hF i).2
    have bS := (hS i).2
    have i8 : vp_in (nI i) 8 := vp_in_nI (by omega) (by omega)
    have i9 : vp_in (nI i) 9 := vp_in_nI (by omega) (by omega)
    obtain ⟨F1, S1, Fa1, Sa1, a1, a2, kX, kY⟩ := gr_drop (n := n) (M := M) hn (by omega) (M - i) i F S Fa Sa (by omega) hF hS
    have core : ∀ lo hi : Nat, lo < n → hi < n → ∃ (F' S' : Nat → Nat) (Fa' Sa' : Nat → Int32), tu_ar n F' Fa' ∧ tu_ar n S' Sa' ∧
        (∀ post : Int32 → SX → Prop, post (nI M) (nI n, nI M, 0, wt, Fa', Sa', tm, we, wp, wx, wy) → wX_merge_50 post (nI i) (nI lo) (nI hi) (nI n) (nI (M + 1)) rd wt Fa Sa tm we wp wx wy) ∧
        (∀ post : Int32 → SY → Prop, post (nI M) (nI n, nI M, Fa', Sa', lb, sm, pl) → wY_merge_71 post (nI i) (nI lo) (nI hi) (nI n) (nI (M + 1)) Fa Sa lb sm pl) := by
      intro lo hi' hlo hhi
      obtain ⟨F2, S2, Fa2, Sa2, b1, b2, lX, lY⟩ := gr_merge (n := n) (M := M) (lo := lo) (hi := hi') hn (by omega) hlo hhi M 0 F1 S1 Fa1 Sa1 (by omega) a1 a2
      refine ⟨F2, S2, Fa2, Sa2, b1, b2, fun post h => ?_, fun post h => ?_⟩
      · unfold wX_merge_50
        refine br_f (nI_pos (by omega)) (br_t (nI_lt hi (by omega)) (nm_r (nI_pred M) ⟨_, kX _ _ _ _ _ _ _ _ _ ?_⟩))
        exact ⟨_, lX _ _ _ _ _ _ _ _ _ h⟩
      · unfold wY_merge_71 wpY_drop
        dsimp only
        refine yw_ed_in hi hm (br_f (by decide) ⟨_, kY _ _ _ _ _ ?_⟩)
        exact ⟨_, lY _ _ _ _ _ h⟩
    unfold wpX_merge wpY_merge
    dsimp only
    rw [eF, eS]
    refine br_f (nI_pos (by omega)) (br_t (nI_lt hi (by omega)) ⟨i8, nm_e ⟨i8, nm_e ?_⟩⟩)
    by_cases c : S i ≤ F i
    · have cc : nI (S i) ≤ nI (F i) := nI_le c (by omega)
      obtain ⟨F2, S2, Fa2, Sa2, b1, b2, lX, lY⟩ := core (S i) (F i) bS bF
      refine br_t cc (br_t cc (lX _ ?_))
      refine yw_ed_in hi hm (br_f (by decide) ⟨i9, i9, br_t cc ⟨i9, ?_⟩⟩)
      unfold wY_merge_40
      rw [eF, eS]
      exact ⟨i9, i9, br_t cc ⟨i9, lY _ ⟨rfl, gr_mk h1 hn (by omega) b1 b2 (Or.inl rfl)⟩⟩⟩
    · have cc : ¬ nI (S i) ≤ nI (F i) := nI_ge (by omega) (by omega)
      obtain ⟨F2, S2, Fa2, Sa2, b1, b2, lX, lY⟩ := core (F i) (S i) bF bS
      refine br_f cc (br_f cc (lX _ ?_))
      refine yw_ed_in hi hm (br_f (by decide) ⟨i9, i9, br_f cc ⟨i9, ?_⟩⟩)
      unfold wY_merge_40
      rw [eF, eS]
      exact ⟨i9, i9, br_f cc ⟨i9, lY _ ⟨rfl, gr_mk h1 hn (by omega) b1 b2 (Or.inl rfl)⟩⟩⟩
theorem i_vc_edges {k : Nat} {u : SX} {v : SY} (I : i_Rel k u v) (hk : k + 3 ≤ 1537) : wpX_edges (fun r => wpY_edges (fun r' => r' = r ∧ i_Rel (k + 3) u v) v) u := by
  refine gr_el (P := fun u v => wpX_edges (fun r => wpY_edges (fun r' => r' = r ∧ i_Rel (k + 3) u v) v) u) ?_ I
  intro n m F S rd wt Fa Sa tm we wp wx wy lb sm pl h1 hn hm hF hS hr
  exact ⟨rfl, gr_mk h1 hn hm hF hS hr⟩
theorem i_vc_parts {k : Nat} {u : SX} {v : SY} (I : i_Rel k u v) (hk : k + 3 ≤ 1537) : wpX_parts (fun r => wpY_parts (fun r' v' => r' = r ∧ i_Rel (k + 3) u v') v) u := by
  refine gr_el (P := fun u v => wpX_parts (fun r => wpY_parts (fun r' v' => r' = r ∧ i_Rel (k + 3) u v') v) u) ?_ I
  intro n m F S rd wt Fa Sa tm we wp wx wy lb sm pl h1 hn hm hF hS hr
  exact xw_parts hn hm hF hS (yw_partsM hn hm hF hS (fun lb' => ⟨rfl, gr_mk h1 hn hm hF hS hr⟩))
theorem i_vc_coefficient {k : Nat} {u : SX} {v : SY} (I : i_Rel k u v) (hk : k + 3 ≤ 1537) (v1 : Int32) (v2 : Int32) : wpX_coefficient (fun r u' => wpY_coefficient (fun r' v' => r' = r ∧ i_Rel (k + 3) u' v') v v1 v2) u v1 v2 := by
  refine gr_el (P := fun u v => wpX_coefficient (fun r u' => wpY_coefficient (fun r' v' => r' = r ∧ i_Rel (k + 3) u' v') v v1 v2) u v1 v2) ?_ I
  intro n m F S rd wt Fa Sa tm we wp wx wy lb sm pl h1 hn hm hF hS hr
  have keep : ∀ r : Int32, r = r ∧ i_Rel (k + 3) (nI n, nI m, rd, wt, Fa, Sa, tm, we, wp, wx, wy) (nI n, nI m, Fa, Sa, lb, sm, pl) := fun r => ⟨rfl, gr_mk h1 hn hm hF hS hr⟩
  by_cases a1 : v1 < 0
  · exact br_t a1 (br_t a1 (keep _))
  · by_cases a2 : 8 < v1
    · exact br_f a1 (br_t a2 (br_f a1 (br_t a2 (keep _))))
    · by_cases a3 : v2 < 0
      · exact br_f a1 (br_f a2 (br_t a3 (br_f a1 (br_f a2 (br_t a3 (keep _))))))
      · by_cases a4 : v2 ≤ 8
        · obtain ⟨x, hx, rfl⟩ := nI_of2 (x := v1) (M := 8) (n := 8) (by decide) a1 (Int32.not_lt.mp a2)
          obtain ⟨y, hy, rfl⟩ := nI_of2 (x := v2) (M := 8) (n := 8) (by decide) a3 a4
          exact xw_coef hn hm hF hS hr (by omega) (by omega) (fun rd' wt' tm' we' wp' wx' wy' hg => yw_coef hn hm hF hS (by omega) (by omega) (fun lb' pl' => ⟨rfl, gr_mk h1 hn hm hF hS (Or.inr hg)⟩))
        · exact br_f a1 (br_f a2 (br_f a3 (br_f a4 (br_f a1 (br_f a2 (br_f a3 (br_f a4 (keep _))))))))
theorem i_vc_trees {k : Nat} {u : SX} {v : SY} (I : i_Rel k u v) (hk : k + 3 ≤ 1537) : wpX_trees (fun r u' => wpY_trees (fun r' v' => r' = r ∧ i_Rel (k + 3) u' v') v) u := by
  refine gr_el (P := fun u v => wpX_trees (fun r u' => wpY_trees (fun r' v' => r' = r ∧ i_Rel (k + 3) u' v') v) u) ?_ I
  intro n m F S rd wt Fa Sa tm we wp wx wy lb sm pl h1 hn hm hF hS hr
  unfold wpX_trees wpY_trees
  dsimp only
  refine xw_val 1 1 tu_iI_1.symm tu_iI_1.symm hn hm hF hS hr (fun rd' wt' tm' we' wp' wx' wy' hg => ?_)
  refine yw_count hn hm hF hS (fun lb' => ⟨?_, gr_mk h1 hn hm hF hS (Or.inr hg)⟩)
  rw [tu_trees]
theorem i_vc_forests {k : Nat} {u : SX} {v : SY} (I : i_Rel k u v) (hk : k + 3 ≤ 1537) : wpX_forests (fun r u' => wpY_forests (fun r' v' => r' = r ∧ i_Rel (k + 3) u' v') v) u := by
  refine gr_el (P := fun u v => wpX_forests (fun r u' => wpY_forests (fun r' v' => r' = r ∧ i_Rel (k + 3) u' v') v) u) ?_ I
  intro n m F S rd wt Fa Sa tm we wp wx wy lb sm pl h1 hn hm hF hS hr
  unfold wpX_forests wpY_forests
  dsimp only
  refine xw_val 2 1 (by decide) tu_iI_1.symm hn hm hF hS hr (fun rd' wt' tm' we' wp' wx' wy' hg => ?_)
  refine yw_count hn hm hF hS (fun lb' => ⟨?_, gr_mk h1 hn hm hF hS (Or.inr hg)⟩)
  rw [tu_forests]
theorem i_vc_spanning {k : Nat} {u : SX} {v : SY} (I : i_Rel k u v) (hk : k + 3 ≤ 1537) : wpX_spanning (fun r u' => wpY_spanning (fun r' v' => r' = r ∧ i_Rel (k + 3) u' v') v) u := by
  refine gr_el (P := fun u v => wpX_spanning (fun r u' => wpY_spanning (fun r' v' => r' = r ∧ i_Rel (k + 3) u' v') v) u) ?_ I
  intro n m F S rd wt Fa Sa tm we wp wx wy lb sm pl h1 hn hm hF hS hr
  unfold wpX_spanning wpY_spanning
  dsimp only
  refine xw_val 1 2 tu_iI_1.symm (by decide) hn hm hF hS hr (fun rd' wt' tm' we' wp' wx' wy' hg => ?_)
  refine yw_count hn hm hF hS (fun lb' => ⟨?_, gr_mk h1 hn hm hF hS (Or.inr hg)⟩)
  rw [tu_spanning]
theorem i_vc_colourings {k : Nat} {u : SX} {v : SY} (I : i_Rel k u v) (hk : k + 3 ≤ 1537) (v1 : Int32) : wpX_colourings (fun r u' => wpY_colourings (fun r' => r' = r ∧ i_Rel (k + 3) u' v) v v1) u v1 := by
  refine gr_el (P := fun u v => wpX_colourings (fun r u' => wpY_colourings (fun r' => r' = r ∧ i_Rel (k + 3) u' v) v v1) u v1) ?_ I
  intro n m F S rd wt Fa Sa tm we wp wx wy lb sm pl h1 hn hm hF hS hr
  have keep : ∀ r : Int32, r = r ∧ i_Rel (k + 3) (nI n, nI m, rd, wt, Fa, Sa, tm, we, wp, wx, wy) (nI n, nI m, Fa, Sa, lb, sm, pl) := fun r => ⟨rfl, gr_mk h1 hn hm hF hS hr⟩
  by_cases a1 : v1 < 0
  · exact br_t a1 (br_t a1 (keep _))
  · by_cases a2 : v1 ≤ 6
    · obtain ⟨x, hx, rfl⟩ := nI_of2 (x := v1) (M := 6) (n := 6) (by decide) a1 a2
      refine xw_col hn hm hF hS hr hx (fun rd' wt' tm' we' wp' wx' wy' hg => ?_)
      refine yw_col h1 hn hm hF hS hx (fun z => ⟨?_, gr_mk h1 hn hm hF hS (Or.inr hg)⟩) (fun z => ⟨?_, gr_mk h1 hn hm hF hS (Or.inr hg)⟩)
      · have pos := tu_fx_pos h1 (tu_fd_ok (A := tu_el F S 0 m) tu_id_ok)
        rw [z, show (((0 : Nat) : Int)) ^ tu_fx n (tu_fd (tu_el F S 0 m) (fun p => p)) = 0 from Int.zero_pow (by omega), Int.zero_mul, Int.mul_zero, tu_iI_0]
      · rw [tu_col z (tu_el_b2 hF hS 0 m)]
    · exact br_f a1 (br_f a2 (br_f a1 (br_f a2 (keep _))))
theorem i_vc_flows {k : Nat} {u : SX} {v : SY} (I : i_Rel k u v) (hk : k + 3 ≤ 1537) (v1 : Int32) : wpX_flows (fun r u' => wpY_flows (fun r' v' => r' = r ∧ i_Rel (k + 3) u' v') v v1) u v1 := by
  refine gr_el (P := fun u v => wpX_flows (fun r u' => wpY_flows (fun r' v' => r' = r ∧ i_Rel (k + 3) u' v') v v1) u v1) ?_ I
  intro n m F S rd wt Fa Sa tm we wp wx wy lb sm pl h1 hn hm hF hS hr
  have keep : ∀ r : Int32, r = r ∧ i_Rel (k + 3) (nI n, nI m, rd, wt, Fa, Sa, tm, we, wp, wx, wy) (nI n, nI m, Fa, Sa, lb, sm, pl) := fun r => ⟨rfl, gr_mk h1 hn hm hF hS hr⟩
  by_cases a1 : v1 < 1
  · exact br_t a1 (br_t a1 (keep _))
  · by_cases a2 : v1 ≤ 4
    · obtain ⟨x, hx, rfl⟩ := nI_of2 (x := v1) (M := 4) (n := 4) (by decide) (fun z => absurd (Int32.lt_of_lt_of_le z (show (0 : Int32) ≤ 1 by decide)) a1) a2
      have x1 : 1 ≤ x := by
        by_cases c : 1 ≤ x
        · exact c
        · exact absurd (nI_lt (a := x) (b := 1) (by omega) (by omega)) a1
      obtain ⟨b, rfl⟩ : ∃ b, x = b + 1 := ⟨x - 1, by omega⟩
      refine xw_flow hn hm hF hS hr (by omega) hx (fun rd' wt' tm' we' wp' wx' wy' hg => ?_)
      refine yw_flow hn hm hF hS (by omega) (fun sm' => ⟨?_, gr_mk h1 hn hm hF hS (Or.inr hg)⟩)
      rw [tu_flow (by omega) (tu_el_b2 hF hS 0 m), tu_el_len]
    · exact br_f a1 (br_f a2 (br_f a1 (br_f a2 (keep _))))
theorem i_vc_acyclic {k : Nat} {u : SX} {v : SY} (I : i_Rel k u v) (hk : k + 3 ≤ 1537) : wpX_acyclic (fun r u' => wpY_acyclic (fun r' v' => r' = r ∧ i_Rel (k + 3) u' v') v) u := by
  refine gr_el (P := fun u v => wpX_acyclic (fun r u' => wpY_acyclic (fun r' v' => r' = r ∧ i_Rel (k + 3) u' v') v) u) ?_ I
  intro n m F S rd wt Fa Sa tm we wp wx wy lb sm pl h1 hn hm hF hS hr
  unfold wpX_acyclic
  dsimp only
  refine xw_val 2 0 (by decide) tu_iI_0.symm hn hm hF hS hr (fun rd' wt' tm' we' wp' wx' wy' hg => ?_)
  refine yw_ac hn hm hF hS (fun lb' => ⟨?_, gr_mk h1 hn hm hF hS (Or.inr hg)⟩)
  rw [tu_acyclic (tu_el_b2 hF hS 0 m)]
end
