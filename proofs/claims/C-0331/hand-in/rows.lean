section
theorem pk_us {f : Nat → Int32} {k : Nat} {x : Int32} : upd f k x k = x := if_pos rfl
theorem pk_un {f : Nat → Int32} {k j : Nat} {x : Int32} (h : j ≠ k) : upd f k x j = f j := if_neg h
theorem pk_sub {a b : Nat} (h : b ≤ a) : nI a - nI b = nI (a - b) := by
  obtain ⟨c, rfl⟩ : ∃ c, a = c + b := ⟨a - b, by omega⟩
  rw [← nI_add, Int32.add_sub_cancel, Nat.add_sub_cancel]
theorem pk_mul (a b : Nat) : nI a * nI b = nI (a * b) := (Int32.ofNat_mul a b).symm
theorem pk_div {a d : Nat} (ha : a < 2 ^ 31) (h0 : 0 < d) (hd : d < 2 ^ 31) : nI a / nI d = nI (a / d) := by
  apply Int32.toInt_inj.mp
  rw [lg_idiv_nonneg (by rw [nI_toInt ha]; omega) (by rw [nI_toInt hd]; omega), nI_toInt ha, nI_toInt hd, nI_toInt (Nat.lt_of_le_of_lt (Nat.div_le_self a d) ha)]
  first | rfl | exact (Int.natCast_ediv _ _).symm
theorem pk_rem {a d : Nat} (ha : a < 2 ^ 31) (h0 : 0 < d) (hd : d < 2 ^ 31) : nI a - nI a / nI d * nI d = nI (a % d) := by
  rw [pk_div ha h0 hd, pk_mul, pk_sub (Nat.div_mul_le_self a d)]
  exact congrArg nI (by have := Nat.div_add_mod' a d; omega)
theorem pk_sub_toInt {a b : Nat} (ha : a < 2 ^ 30) (hb : b < 2 ^ 30) : (nI a - nI b).toInt = (a : Int) - b := by
  rw [Int32.toInt_sub, nI_toInt (by omega), nI_toInt (by omega)]
  exact Int.bmod_eq_of_le (by omega) (by omega)
theorem pk_le {x y : Int32} {A B : Prop} (a b : Nat) (f : a ≤ b → A) (g : b < a → B) (hx : x = nI a := by rfl) (hy : y = nI b := by rfl) (ha : a < 2 ^ 31 := by omega) (hb : b < 2 ^ 31 := by omega) : (x ≤ y → A) ∧ (¬ x ≤ y → B) := by
  subst hx hy
  rw [nI_leI ha hb]
  exact ⟨f, fun z => g (by omega)⟩
theorem pk_lt {x y : Int32} {A B : Prop} (a b : Nat) (f : a < b → A) (g : b ≤ a → B) (hx : x = nI a := by rfl) (hy : y = nI b := by rfl) (ha : a < 2 ^ 31 := by omega) (hb : b < 2 ^ 31 := by omega) : (x < y → A) ∧ (¬ x < y → B) := by
  subst hx hy
  rw [nI_ltI ha hb]
  exact ⟨f, fun z => g (by omega)⟩
theorem pk_eq {x y : Int32} {A B : Prop} (a b : Nat) (f : a = b → A) (g : a ≠ b → B) (hx : x = nI a := by rfl) (hy : y = nI b := by rfl) (ha : a < 2 ^ 31 := by omega) (hb : b < 2 ^ 31 := by omega) : (x = y → A) ∧ (¬ x = y → B) := by
  subst hx hy
  rw [nI_eq ha hb]
  exact ⟨f, g⟩
theorem pk_in {x : Int32} (n N : Nat) (h : n < N) (hx : x = nI n := by rfl) (hN : N < 2 ^ 31 := by omega) : vp_in x N := by
  subst hx
  exact vp_in_nI h hN
theorem pk_cl {x : Int32} (n : Nat) (hx : x = nI n := by rfl) (h : n < 2 ^ 31 := by omega) : x.toNatClampNeg = n := by
  subst hx
  exact nI_clamp h
theorem pk_tn {n : Nat} (h : n < 2 ^ 32) : (nI n).toBitVec.toNat = n := Nat.mod_eq_of_lt h
theorem pk_and (x : Int32) {m : Int32} (k : Nat) (hm : m.toBitVec.toNat = 2 ^ k - 1) : x &&& m = nI (x.toBitVec.toNat % 2 ^ k) := by
  apply Int32.toBitVec_inj.mp
  apply BitVec.eq_of_toNat_eq
  rw [Int32.toBitVec_and, BitVec.toNat_and, hm, Nat.and_two_pow_sub_one_eq_mod]
  show _ = (BitVec.ofNat 32 _).toNat
  rw [BitVec.toNat_ofNat]
  exact (Nat.mod_eq_of_lt (Nat.lt_of_le_of_lt (Nat.mod_le _ _) x.toBitVec.isLt)).symm
theorem pk_andN {n : Nat} (h : n < 2 ^ 32) {m : Int32} (k : Nat) (hm : m.toBitVec.toNat = 2 ^ k - 1) : nI n &&& m = nI (n % 2 ^ k) := by
  rw [pk_and _ k hm, pk_tn h]
theorem pk_shl (a s : Int32) (k : Nat) (hs : (s.toBitVec.smod 32).toNat = k) : (a <<< s).toBitVec.toNat = a.toBitVec.toNat * 2 ^ k % 2 ^ 32 := by
  show (a.toBitVec <<< (s.toBitVec.smod 32).toNat).toNat = _
  rw [hs, BitVec.toNat_shiftLeft, Nat.shiftLeft_eq]
theorem pk_shlN {n : Nat} (s : Int32) (k : Nat) (hs : (s.toBitVec.smod 32).toNat = k) (h : n * 2 ^ k < 2 ^ 32) : nI n <<< s = nI (n * 2 ^ k) := by
  apply Int32.toBitVec_inj.mp
  apply BitVec.eq_of_toNat_eq
  have hn : n < 2 ^ 32 := Nat.lt_of_le_of_lt (Nat.le_mul_of_pos_right n (Nat.two_pow_pos k)) h
  rw [pk_shl _ _ k hs, pk_tn hn, pk_tn h, Nat.mod_eq_of_lt h]
theorem pk_shr (a s : Int32) (k : Nat) (hs : (s.toBitVec.smod 32).toNat = k) : (a >>> s).toInt = a.toInt >>> k := by
  show (a.toBitVec.sshiftRight (s.toBitVec.smod 32).toNat).toInt = _
  rw [hs, BitVec.toInt_sshiftRight]
  rfl
theorem pk_shrN {n : Nat} (h : n < 2 ^ 31) (s : Int32) (k : Nat) (hs : (s.toBitVec.smod 32).toNat = k) : nI n >>> s = nI (n / 2 ^ k) := by
  apply Int32.toInt_inj.mp
  have h2 : n / 2 ^ k ≤ n := Nat.div_le_self _ _
  rw [pk_shr _ _ k hs, nI_toInt h, nI_toInt (by omega), Int.shiftRight_eq_div_pow]
  rfl
end
section
/-! sums and powers in the field of 7681 elements -/
abbrev wm_F : Type := Fin 7681
def wm_s (f : Nat → wm_F) : Nat → wm_F
  | 0 => 0
  | n + 1 => wm_s f n + f n
def wm_p (G : wm_F) : Nat → wm_F
  | 0 => 1
  | n + 1 => wm_p G n * G
theorem wm_ac (a b c d : wm_F) : (a + b) + (c + d) = (a + c) + (b + d) := by
  rw [Lean.Grind.Fin.add_assoc, Lean.Grind.Fin.add_assoc, ← Lean.Grind.Fin.add_assoc b c d, Lean.Grind.Fin.add_comm b c, Lean.Grind.Fin.add_assoc c b d]
theorem wm_rd (a b c : wm_F) : (a + b) * c = a * c + b * c := by
  rw [Lean.Grind.Fin.mul_comm, Lean.Grind.Fin.left_distrib, Lean.Grind.Fin.mul_comm c a, Lean.Grind.Fin.mul_comm c b]
theorem wm_0a (a : wm_F) : 0 + a = a := by rw [Lean.Grind.Fin.add_comm, Lean.Grind.Fin.add_zero]
theorem wm_a0 (a : wm_F) : a + 0 = a := Lean.Grind.Fin.add_zero a
theorem wm_1m (a : wm_F) : 1 * a = a := by rw [Lean.Grind.Fin.mul_comm, Lean.Grind.Fin.mul_one]
theorem wm_m1 (a : wm_F) : a * 1 = a := Lean.Grind.Fin.mul_one a
theorem wm_0m (a : wm_F) : 0 * a = 0 := Lean.Grind.Fin.zero_mul a
theorem wm_m0 (a : wm_F) : a * 0 = 0 := by rw [Lean.Grind.Fin.mul_comm, Lean.Grind.Fin.zero_mul]
theorem wm_mc (a b : wm_F) : a * b = b * a := Lean.Grind.Fin.mul_comm a b
theorem wm_ma (a b c : wm_F) : a * b * c = a * (b * c) := Lean.Grind.Fin.mul_assoc a b c
theorem wm_ld (a b c : wm_F) : a * (b + c) = a * b + a * c := Lean.Grind.Fin.left_distrib a b c
theorem wm_s_congr {f g : Nat → wm_F} : ∀ n : Nat, (∀ i, i < n → f i = g i) → wm_s f n = wm_s g n := by
  intro n
  induction n with
  | zero => intro _; rfl
  | succ n ih =>
    intro h
    show wm_s f n + f n = wm_s g n + g n
    rw [ih (fun i hi => h i (by omega)), h n (by omega)]
theorem wm_s_add (f g : Nat → wm_F) : ∀ n : Nat, wm_s (fun i => f i + g i) n = wm_s f n + wm_s g n := by
  intro n
  induction n with
  | zero => exact (wm_0a 0).symm
  | succ n ih =>
    show wm_s (fun i => f i + g i) n + (f n + g n) = (wm_s f n + f n) + (wm_s g n + g n)
    rw [ih, wm_ac]
theorem wm_s_mul (c : wm_F) (f : Nat → wm_F) : ∀ n : Nat, wm_s (fun i => c * f i) n = c * wm_s f n := by
  intro n
  induction n with
  | zero => exact (wm_m0 c).symm
  | succ n ih =>
    show wm_s (fun i => c * f i) n + c * f n = c * (wm_s f n + f n)
    rw [ih, wm_ld]
theorem wm_s_mulr (c : wm_F) (f : Nat → wm_F) : ∀ n : Nat, wm_s (fun i => f i * c) n = wm_s f n * c := by
  intro n
  rw [wm_mc, ← wm_s_mul]
  exact wm_s_congr n (fun i _ => wm_mc _ _)
theorem wm_s_zero {f : Nat → wm_F} : ∀ n : Nat, (∀ i, i < n → f i = 0) → wm_s f n = 0 := by
  intro n
  induction n with
  | zero => intro _; rfl
  | succ n ih =>
    intro h
    show wm_s f n + f n = 0
    rw [ih (fun i hi => h i (by omega)), h n (by omega), wm_0a]
theorem wm_s_swap (f : Nat → Nat → wm_F) (m : Nat) : ∀ n : Nat, wm_s (fun i => wm_s (fun j => f i j) m) n = wm_s (fun j => wm_s (fun i => f i j) n) m := by
  intro n
  induction n with
  | zero => exact (wm_s_zero m (fun i _ => rfl)).symm
  | succ n ih =>
    show wm_s (fun i => wm_s (fun j => f i j) m) n + wm_s (fun j => f n j) m = wm_s (fun j => wm_s (fun i => f i j) n + f n j) m
    rw [ih, wm_s_add]
theorem wm_s_one {f : Nat → wm_F} (k : Nat) : ∀ n : Nat, k < n → (∀ i, i < n → i ≠ k → f i = 0) → wm_s f n = f k := by
  intro n
  induction n with
  | zero => intro h; omega
  | succ n ih =>
    intro hk h
    show wm_s f n + f n = f k
    by_cases e : k = n
    · subst e
      rw [wm_s_zero k (fun i hi => h i (by omega) (by omega)), wm_0a]
    · rw [ih (by omega) (fun i hi hn => h i (by omega) hn), h n (by omega) (fun z => e z.symm), wm_a0]
theorem wm_s_cut {f : Nat → wm_F} (m : Nat) : ∀ d : Nat, (∀ i, m ≤ i → i < m + d → f i = 0) → wm_s f (m + d) = wm_s f m := by
  intro d
  induction d with
  | zero => intro _; rfl
  | succ d ih =>
    intro h
    show wm_s f (m + d) + f (m + d) = wm_s f m
    rw [ih (fun i a b => h i a (by omega)), h (m + d) (by omega) (by omega), wm_a0]
theorem wm_s_first (f : Nat → wm_F) : ∀ n : Nat, wm_s f (n + 1) = f 0 + wm_s (fun i => f (i + 1)) n := by
  intro n
  induction n with
  | zero =>
    show 0 + f 0 = f 0 + 0
    rw [wm_0a, wm_a0]
  | succ n ih =>
    show wm_s f (n + 1) + f (n + 1) = f 0 + (wm_s (fun i => f (i + 1)) n + f (n + 1))
    rw [ih, Lean.Grind.Fin.add_assoc]
theorem wm_s_rev (f : Nat → wm_F) : ∀ n : Nat, wm_s (fun i => f (n - 1 - i)) n = wm_s f n := by
  intro n
  induction n with
  | zero => rfl
  | succ n ih =>
    rw [wm_s_first]
    show f (n + 1 - 1 - 0) + _ = wm_s f n + f n
    rw [show n + 1 - 1 - 0 = n from by omega, Lean.Grind.Fin.add_comm, ← ih]
    refine congrArg (fun z => z + f n) (wm_s_congr n (fun i hi => ?_))
    show f (n + 1 - 1 - (i + 1)) = f (n - 1 - i)
    rw [show n + 1 - 1 - (i + 1) = n - 1 - i from by omega]
theorem wm_p_add (G : wm_F) (a : Nat) : ∀ b : Nat, wm_p G (a + b) = wm_p G a * wm_p G b := by
  intro b
  induction b with
  | zero => exact (wm_m1 _).symm
  | succ b ih =>
    show wm_p G (a + b) * G = wm_p G a * (wm_p G b * G)
    rw [ih, wm_ma]
theorem wm_p_mul (G : wm_F) (a : Nat) : ∀ b : Nat, wm_p G (a * b) = wm_p (wm_p G a) b := by
  intro b
  induction b with
  | zero => rfl
  | succ b ih =>
    show wm_p G (a * b + a) = wm_p (wm_p G a) b * wm_p G a
    rw [wm_p_add, ih]
theorem wm_p_one : ∀ b : Nat, wm_p 1 b = 1 := by
  intro b
  induction b with
  | zero => rfl
  | succ b ih =>
    show wm_p 1 b * 1 = 1
    rw [ih, wm_m1]
theorem wm_p_mod {G : wm_F} (h : wm_p G 64 = 1) (e : Nat) : wm_p G (e % 64) = wm_p G e := by
  have q : wm_p G e = wm_p G (64 * (e / 64) + e % 64) := by rw [Nat.div_add_mod]
  rw [q, wm_p_add, wm_p_mul, h, wm_p_one, wm_1m]
end
section
/-! the transform: the matrix after each stage; the product theorem -/
def wm_g : wm_F := 5413
def wm_h : wm_F := 2645
theorem wm_g64 : wm_p wm_g 64 = 1 := by decide +kernel
theorem wm_g32 : wm_p wm_g 32 = -1 := by decide +kernel
theorem wm_h64 : wm_p wm_h 64 = 1 := by decide +kernel
theorem wm_h32 : wm_p wm_h 32 = -1 := by decide +kernel
theorem wm_hg : wm_h = wm_p wm_g 63 := by decide +kernel
def wm_rev (k : Nat) : Nat := k % 2 * 32 + k / 2 % 2 * 16 + k / 4 % 2 * 8 + k / 8 % 2 * 4 + k / 16 % 2 * 2 + k / 32 % 2
/-- does the input t reach the place q after s stages, and by which power of the root -/
def wm_o (s q t : Nat) : Bool := t % 2 ^ (6 - s) == wm_rev (q / 2 ^ s * 2 ^ s)
def wm_x (s q t : Nat) : Nat := (q % 2 ^ s) * (t - t % 2 ^ (6 - s)) % 64
def wm_M (G : wm_F) (s q t : Nat) : wm_F := if wm_o s q t = true then wm_p G (wm_x s q t) else 0
/-- the lower place of the k-th butterfly of stage s; the upper one lies 2 ^ s behind it -/
def wm_lo (s k : Nat) : Nat := k / 2 ^ s * 2 * 2 ^ s + k % 2 ^ s
def wm_pw (s k : Nat) : Nat := k % 2 ^ s * (32 / 2 ^ s)
def wm_ck (s k t : Nat) : Bool :=
  (wm_o s (wm_lo s k) t && !wm_o s (wm_lo s k + 2 ^ s) t && wm_o (s + 1) (wm_lo s k) t && wm_o (s + 1) (wm_lo s k + 2 ^ s) t && wm_x (s + 1) (wm_lo s k) t == wm_x s (wm_lo s k) t && wm_x (s + 1) (wm_lo s k + 2 ^ s) t == wm_x s (wm_lo s k) t)
  || (!wm_o s (wm_lo s k) t && wm_o s (wm_lo s k + 2 ^ s) t && wm_o (s + 1) (wm_lo s k) t && wm_o (s + 1) (wm_lo s k + 2 ^ s) t && wm_x (s + 1) (wm_lo s k) t == (wm_pw s k + wm_x s (wm_lo s k + 2 ^ s) t) % 64 && wm_x (s + 1) (wm_lo s k + 2 ^ s) t == (wm_pw s k + wm_x s (wm_lo s k + 2 ^ s) t + 32) % 64)
  || (!wm_o s (wm_lo s k) t && !wm_o s (wm_lo s k + 2 ^ s) t && !wm_o (s + 1) (wm_lo s k) t && !wm_o (s + 1) (wm_lo s k + 2 ^ s) t)
theorem wm_ck_b : ((List.range 6).all fun s => (List.range 32).all fun k => (List.range 64).all fun t => wm_ck s k t) = true := by decide +kernel
theorem wm_ck_a {s k t : Nat} (hs : s < 6) (hk : k < 32) (ht : t < 64) : wm_ck s k t = true := by
  have h := wm_ck_b
  rw [List.all_eq_true] at h
  have h1 := h s (List.mem_range.mpr hs)
  rw [List.all_eq_true] at h1
  have h2 := h1 k (List.mem_range.mpr hk)
  rw [List.all_eq_true] at h2
  exact h2 t (List.mem_range.mpr ht)
theorem wm_M_t {G : wm_F} {s q t : Nat} (h : wm_o s q t = true) : wm_M G s q t = wm_p G (wm_x s q t) := if_pos h
theorem wm_M_f {G : wm_F} {s q t : Nat} (h : wm_o s q t = false) : wm_M G s q t = 0 := if_neg (by rw [h]; exact Bool.false_ne_true)
theorem wm_M_st {G : wm_F} (g64 : wm_p G 64 = 1) (g32 : wm_p G 32 = -1) {s k t : Nat} (hs : s < 6) (hk : k < 32) (ht : t < 64) :
    wm_M G (s + 1) (wm_lo s k) t = wm_M G s (wm_lo s k) t + wm_p G (wm_pw s k) * wm_M G s (wm_lo s k + 2 ^ s) t
    ∧ wm_M G (s + 1) (wm_lo s k + 2 ^ s) t = wm_M G s (wm_lo s k) t + (wm_p G (wm_pw s k) * (-1)) * wm_M G s (wm_lo s k + 2 ^ s) t := by
  have c := wm_ck_a hs hk ht
  unfold wm_ck at c
  simp only [Bool.or_eq_true, Bool.and_eq_true, Bool.not_eq_true', beq_iff_eq] at c
  rcases c with (⟨⟨⟨⟨⟨a, b⟩, c⟩, d⟩, e⟩, f⟩ | ⟨⟨⟨⟨⟨a, b⟩, c⟩, d⟩, e⟩, f⟩) | ⟨⟨⟨a, b⟩, c⟩, d⟩
  · rw [wm_M_t a, wm_M_f b, wm_M_t c, wm_M_t d, e, f, wm_m0, wm_m0, wm_a0]
    exact ⟨rfl, rfl⟩
  · rw [wm_M_f a, wm_M_t b, wm_M_t c, wm_M_t d, e, f, wm_0a, wm_0a, wm_p_mod g64, wm_p_mod g64, wm_p_add, wm_p_add, wm_p_add, g32]
    refine ⟨rfl, ?_⟩
    rw [wm_ma, wm_ma, wm_mc (-1 : wm_F)]
  · rw [wm_M_f a, wm_M_f b, wm_M_f c, wm_M_f d, wm_m0, wm_m0, wm_a0]
    exact ⟨rfl, rfl⟩
def wm_L (G : wm_F) (s : Nat) (x : Nat → wm_F) (q : Nat) : wm_F := wm_s (fun t => x t * wm_M G s q t) 64
theorem wm_L_c (c : wm_F) (x a b : Nat → wm_F) (n : Nat) : wm_s (fun t => x t * (a t + c * b t)) n = wm_s (fun t => x t * a t) n + c * wm_s (fun t => x t * b t) n := by
  rw [← wm_s_mul, ← wm_s_add]
  refine wm_s_congr n (fun t _ => ?_)
  rw [wm_ld, ← wm_ma, wm_mc (x t) c, wm_ma]
theorem wm_nsub (a b c : wm_F) : a + (c * (-1)) * b = a - c * b := by
  rw [wm_mc c (-1), Lean.Grind.Fin.neg_mul, wm_1m, Lean.Grind.Fin.neg_mul, ← Lean.Grind.Fin.sub_eq_add_neg]
theorem wm_L_st {G : wm_F} (g64 : wm_p G 64 = 1) (g32 : wm_p G 32 = -1) (x : Nat → wm_F) {s k : Nat} (hs : s < 6) (hk : k < 32) :
    wm_L G (s + 1) x (wm_lo s k) = wm_L G s x (wm_lo s k) + wm_p G (wm_pw s k) * wm_L G s x (wm_lo s k + 2 ^ s)
    ∧ wm_L G (s + 1) x (wm_lo s k + 2 ^ s) = wm_L G s x (wm_lo s k) - wm_p G (wm_pw s k) * wm_L G s x (wm_lo s k + 2 ^ s) := by
  constructor
  · unfold wm_L
    rw [← wm_L_c]
    refine wm_s_congr 64 (fun t ht => ?_)
    rw [(wm_M_st g64 g32 hs hk ht).1]
  · rw [← wm_nsub]
    unfold wm_L
    rw [← wm_L_c]
    refine wm_s_congr 64 (fun t ht => ?_)
    rw [(wm_M_st g64 g32 hs hk ht).2]
theorem wm_rev_lt (k : Nat) : wm_rev k < 64 := by unfold wm_rev; omega
theorem wm_L_0 (G : wm_F) (x : Nat → wm_F) {q : Nat} (hq : q < 64) : wm_L G 0 x q = x (wm_rev q) := by
  unfold wm_L
  have o : ∀ t, t < 64 → wm_o 0 q t = (t == wm_rev q) := by
    intro t ht
    unfold wm_o
    rw [show 2 ^ (6 - 0) = 64 from rfl, show 2 ^ 0 = 1 from rfl, Nat.div_one, Nat.mul_one, Nat.mod_eq_of_lt ht]
  rw [wm_s_one (wm_rev q) 64 (wm_rev_lt q)]
  · rw [wm_M_t (by rw [o _ (wm_rev_lt q)]; exact beq_self_eq_true _)]
    have e : wm_x 0 q (wm_rev q) = 0 := by
      unfold wm_x
      rw [show 2 ^ 0 = 1 from rfl, Nat.mod_one, Nat.zero_mul]
    rw [e]
    exact wm_m1 _
  · intro i hi hn
    rw [wm_M_f (by rw [o i hi]; exact beq_false_of_ne hn), wm_m0]
def wm_dft (G : wm_F) (x : Nat → wm_F) (q : Nat) : wm_F := wm_s (fun t => x t * wm_p G (q * t)) 64
theorem wm_L_6 {G : wm_F} (g64 : wm_p G 64 = 1) (x : Nat → wm_F) {q : Nat} (hq : q < 64) : wm_L G 6 x q = wm_dft G x q := by
  unfold wm_L wm_dft
  refine wm_s_congr 64 (fun t ht => ?_)
  have o : wm_o 6 q t = true := by
    unfold wm_o
    rw [show 2 ^ (6 - 6) = 1 from rfl, show 2 ^ 6 = 64 from rfl, Nat.mod_one, Nat.div_eq_of_lt hq, Nat.zero_mul]
    rfl
  rw [wm_M_t o]
  unfold wm_x
  rw [show 2 ^ (6 - 6) = 1 from rfl, show 2 ^ 6 = 64 from rfl, Nat.mod_one, Nat.mod_eq_of_lt hq, Nat.sub_zero, wm_p_mod g64]
theorem wm_dft_congr {G : wm_F} {x y : Nat → wm_F} (q : Nat) (h : ∀ t, t < 64 → x t = y t) : wm_dft G x q = wm_dft G y q := by
  unfold wm_dft
  exact wm_s_congr 64 (fun t ht => by rw [h t ht])
theorem wm_orth : ∀ d, d < 64 → wm_s (fun q => wm_p (wm_p wm_g d) q) 64 * 7561 = if d = 0 then 1 else 0 := by decide +kernel
theorem wm_orth2 (a b k : Nat) : wm_s (fun q => wm_p wm_g (q * a) * wm_p wm_g (q * b) * wm_p wm_h (k * q)) 64 * 7561 = if (a + b + 63 * k) % 64 = 0 then 1 else 0 := by
  rw [← wm_orth _ (Nat.mod_lt (a + b + 63 * k) (by decide))]
  refine congrArg (fun z => z * 7561) (wm_s_congr 64 (fun q _ => ?_))
  rw [wm_p_mod wm_g64, ← wm_p_mul, wm_hg, ← wm_p_mul, ← wm_p_add, ← wm_p_add]
  refine congrArg (wm_p wm_g) ?_
  rw [Nat.add_mul, Nat.add_mul, Nat.mul_comm q a, Nat.mul_comm q b, Nat.mul_assoc]
theorem wm_s_prod (f g : Nat → wm_F) (c : wm_F) (n m : Nat) : wm_s f n * wm_s g m * c = wm_s (fun a => wm_s (fun b => f a * g b * c) m) n := by
  rw [wm_ma, ← wm_s_mulr]
  refine wm_s_congr n (fun a _ => ?_)
  rw [← wm_s_mulr, ← wm_s_mul]
  exact wm_s_congr m (fun b _ => (wm_ma _ _ _).symm)
theorem wm_r4 (a p b q c : wm_F) : (a * p) * (b * q) * c = (a * b) * (p * q * c) := by
  rw [wm_ma a p, ← wm_ma p b, wm_mc p b, wm_ma b p, ← wm_ma a b, wm_ma (a * b)]
theorem wm_conv (A B : Nat → wm_F) (k : Nat) : wm_dft wm_h (fun q => wm_dft wm_g A q * wm_dft wm_g B q) k * 7561
    = wm_s (fun a => wm_s (fun b => A a * B b * (if (a + b + 63 * k) % 64 = 0 then 1 else 0)) 64) 64 := by
  have e1 : wm_dft wm_h (fun q => wm_dft wm_g A q * wm_dft wm_g B q) k
      = wm_s (fun q => wm_s (fun a => wm_s (fun b => A a * B b * (wm_p wm_g (q * a) * wm_p wm_g (q * b) * wm_p wm_h (k * q))) 64) 64) 64 := by
    unfold wm_dft
    refine wm_s_congr 64 (fun q _ => ?_)
    rw [wm_s_prod]
    exact wm_s_congr 64 (fun a _ => wm_s_congr 64 (fun b _ => wm_r4 _ _ _ _ _))
  rw [e1, wm_s_swap, ← wm_s_mulr]
  refine wm_s_congr 64 (fun a _ => ?_)
  rw [wm_s_swap, ← wm_s_mulr]
  refine wm_s_congr 64 (fun b _ => ?_)
  rw [wm_s_mul, wm_ma, wm_orth2]
theorem wm_lin (X Y : Nat → wm_F) (f : wm_F) (k : Nat) : wm_dft wm_h (fun q => X q + Y q * f) k * 7561 = wm_dft wm_h X k * 7561 + wm_dft wm_h Y k * 7561 * f := by
  have e : wm_dft wm_h (fun q => X q + Y q * f) k = wm_dft wm_h X k + wm_dft wm_h Y k * f := by
    unfold wm_dft
    rw [← wm_s_mulr, ← wm_s_add]
    refine wm_s_congr 64 (fun t _ => ?_)
    rw [wm_rd, wm_ma (Y t), wm_mc f, ← wm_ma]
  rw [e, wm_rd, wm_ma _ f, wm_mc f, ← wm_ma]
theorem wm_cv {mu nu : Nat → wm_F} {m n i : Nat} {A B : Nat → wm_F} (h1 : 1 ≤ m) (hm : m ≤ 12) (hn : n ≤ 40) (hi : i < n)
    (hA : ∀ a, a < 64 → A a = if a < m then mu (m - 1 - a) else 0) (hB : ∀ b, b < 64 → B b = if b < n + m - 1 then nu b else 0) :
    wm_dft wm_h (fun q => wm_dft wm_g A q * wm_dft wm_g B q) (i + m - 1) * 7561 = wm_s (fun j => mu j * nu (i + j)) m := by
  rw [wm_conv]
  have e : ∀ a, a < 64 → wm_s (fun b => A a * B b * (if (a + b + 63 * (i + m - 1)) % 64 = 0 then 1 else 0)) 64 = if a < m then mu (m - 1 - a) * nu (i + (m - 1 - a)) else 0 := by
    intro a ha
    by_cases ham : a < m
    · rw [wm_s_one (i + (m - 1 - a)) 64 (by omega)]
      · rw [hA a ha, if_pos ham, hB _ (by omega), if_pos (by omega), if_pos (by omega), if_pos ham, wm_m1]
      · intro b hb hne
        rw [hB b hb]
        by_cases hbn : b < n + m - 1
        · rw [if_neg (c := (a + b + 63 * (i + m - 1)) % 64 = 0) (by omega), wm_m0]
        · rw [if_neg hbn, wm_m0, wm_0m]
    · rw [if_neg ham]
      refine wm_s_zero 64 (fun b _ => ?_)
      rw [hA a ha, if_neg ham, wm_0m, wm_0m]
  rw [wm_s_congr 64 e]
  have c := wm_s_cut (f := fun a => if a < m then mu (m - 1 - a) * nu (i + (m - 1 - a)) else 0) m (64 - m) (fun a h _ => if_neg (by omega))
  rw [show m + (64 - m) = 64 from by omega] at c
  rw [c, ← wm_s_rev (fun j => mu j * nu (i + j)) m]
  exact wm_s_congr m (fun a ha => if_pos ha)
end
section
/-! the work array holds numbers below 7681 -/
def wm_e (x : wm_F) : Int32 := nI x.val
def wm_a (w : Nat → wm_F) : Nat → Int32 := fun k => wm_e (w k)
def wm_u (w : Nat → wm_F) (k : Nat) (x : wm_F) : Nat → wm_F := fun j => if j = k then x else w j
theorem wm_us {w : Nat → wm_F} {k : Nat} {x : wm_F} : wm_u w k x k = x := if_pos rfl
theorem wm_un {w : Nat → wm_F} {k j : Nat} {x : wm_F} (h : j ≠ k) : wm_u w k x j = w j := if_neg h
theorem wm_au (w : Nat → wm_F) (k : Nat) (x : wm_F) : upd (wm_a w) k (wm_e x) = wm_a (wm_u w k x) := by
  funext j
  show (if j = k then wm_e x else wm_e (w j)) = wm_e (if j = k then x else w j)
  split <;> rfl
theorem wm_eM (a b : wm_F) : wm_e a * wm_e b - wm_e a * wm_e b / 7681 * 7681 = wm_e (a * b) := by
  have h : a.val * b.val < 7681 * 7681 := Nat.mul_lt_mul'' a.isLt b.isLt
  show nI a.val * nI b.val - nI a.val * nI b.val / nI 7681 * nI 7681 = nI (a * b).val
  rw [pk_mul, pk_rem (by omega) (by decide) (by decide), Fin.val_mul]
theorem wm_eA (a b : wm_F) : wm_e a + wm_e b - (wm_e a + wm_e b) / 7681 * 7681 = wm_e (a + b) := by
  have h1 := a.isLt
  have h2 := b.isLt
  show nI a.val + nI b.val - (nI a.val + nI b.val) / nI 7681 * nI 7681 = nI (a + b).val
  rw [nI_add, pk_rem (by omega) (by decide) (by decide), Fin.val_add]
theorem wm_eS (a b : wm_F) : wm_e a + 7681 - wm_e b - (wm_e a + 7681 - wm_e b) / 7681 * 7681 = wm_e (a - b) := by
  have h1 := a.isLt
  have h2 := b.isLt
  show nI a.val + nI 7681 - nI b.val - (nI a.val + nI 7681 - nI b.val) / nI 7681 * nI 7681 = nI (a - b).val
  rw [nI_add, pk_sub (by omega), pk_rem (by omega) (by decide) (by decide), Fin.val_sub]
  have e : a.val + 7681 - b.val = 7681 - b.val + a.val := by omega
  rw [e]
theorem wm_ac2 {w : Nat → wm_F} {x : Int32} (k : Nat) (hx : x = nI k) (hk : k < 2 ^ 31) : wm_a w x.toNatClampNeg = wm_e (w k) := by
  rw [hx, nI_clamp hk]
  rfl
theorem wm_ac3 {w : Nat → wm_F} {x y : Int32} (k : Nat) (z : wm_F) (hx : x = nI k) (hk : k < 2 ^ 31) (hy : y = wm_e z) : upd (wm_a w) x.toNatClampNeg y = wm_a (wm_u w k z) := by
  rw [hx, nI_clamp hk, hy, wm_au]
section wmG
variable {post : SX → Prop} {tl pl rd : Int32} {tx pt rt df wr : Nat → Int32}
theorem wm_bf {z0 z1 z2 : Int32} {w : Nat → wm_F} {c : wm_F} (lo hi p : Nat) (e2 : z2 = nI lo) (e1 : z1 = nI hi) (e0 : z0 = nI p) (hlo : lo < 192) (hhi : hi < 192) (hne : lo ≠ hi) (hp : p < 64) (hr : rt p = wm_e c)
    (h : post (tl, pl, rd, tx, pt, rt, wm_a (wm_u (wm_u w lo (w lo + w hi * c)) hi (w lo - w hi * c)), df, wr)) :
    wpX_butterfly post (tl, pl, rd, tx, pt, rt, wm_a w, df, wr) z2 z1 z0 := by
  subst e2 e1 e0
  unfold wpX_butterfly
  dsimp only
  refine ⟨vp_in_nI hlo (by decide), nm_r (e' := wm_e (w lo)) (wm_ac2 lo rfl (by omega)) ⟨vp_in_nI hhi (by decide), vp_in_nI hp (by decide), by decide, nm_r (e' := wm_e (w hi * c)) ?_ ⟨by decide, vp_in_nI hlo (by decide), nm_r (e' := wm_a (wm_u w lo (w lo + w hi * c))) (wm_ac3 lo _ rfl (by omega) (wm_eA _ _)) ⟨by decide, vp_in_nI hhi (by decide), nm_r (wm_ac3 hi _ rfl (by omega) (wm_eS _ _)) h⟩⟩⟩⟩
  rw [wm_ac2 hi rfl (by omega), nI_clamp (by omega), hr, wm_eM]
/-- clearSum -/
theorem wm_clear {w : Nat → wm_F} (h : ∀ w' : Nat → wm_F, (∀ q, q < 64 → w' (128 + q) = 0) → post (tl, pl, rd, tx, pt, rt, wm_a w', df, wr)) :
    wpX_clearSum post (tl, pl, rd, tx, pt, rt, wm_a w, df, wr) := by
  unfold wpX_clearSum
  dsimp only
  refine loop_0 (fun n i s => wX_clearSum_2 post tl pl rd n (nI i) tx pt rt (wm_a s) df wr) (fun i s => ∀ q, q < i → s (128 + q) = 0) 64 w (fun q hq => by omega) ?_ ?_
  · intro n s hI
    exact pk_le 64 64 (fun _ => h s hI) (fun z => by omega)
  · intro n i s hi hI k
    refine pk_le 64 i (fun z => by omega) (fun _ => ?_)
    have e : (128 : Int32) + nI i = nI (128 + i) := nI_add 128 i
    refine ⟨pk_in (128 + i) 192 (by omega) e, nm_r (wm_ac3 (128 + i) 0 e (by omega) rfl) (nm_r (nI_1 i) (k _ ?_))⟩
    intro q hq
    by_cases eq : q = i
    · subst eq
      exact wm_us
    · rw [wm_un (by omega)]
      exact hI q (by omega)
/-- divideBySize -/
theorem wm_div {w : Nat → wm_F} {x : Int32} (b : Nat) (ex : x = nI b) (hb : b + 64 ≤ 192) (h : ∀ w' : Nat → wm_F, (∀ q, q < 64 → w' (b + q) = w (b + q) * 7561) → (∀ j, (j < b ∨ b + 64 ≤ j) → w' j = w j) → post (tl, pl, rd, tx, pt, rt, wm_a w', df, wr)) :
    wpX_divideBySize post (tl, pl, rd, tx, pt, rt, wm_a w, df, wr) x := by
  subst ex
  unfold wpX_divideBySize
  dsimp only
  refine loop_0 (fun n i s => wX_divideBySize_2 post (nI b) tl pl rd n (nI i) tx pt rt (wm_a s) df wr) (fun i s => (∀ q, q < i → s (b + q) = w (b + q) * 7561) ∧ (∀ j, (j < b ∨ b + i ≤ j) → s j = w j)) 64 w ⟨fun q hq => by omega, fun _ _ => rfl⟩ ?_ ?_
  · intro n s hI
    exact pk_le 64 64 (fun _ => h s hI.1 hI.2) (fun z => by omega)
  · intro n i s hi hI k
    refine pk_le 64 i (fun z => by omega) (fun _ => ?_)
    have e : nI b + nI i = nI (b + i) := nI_add b i
    have v : wm_a s (nI b + nI i).toNatClampNeg * 7561 - wm_a s (nI b + nI i).toNatClampNeg * 7561 / 7681 * 7681 = wm_e (w (b + i) * 7561) := by
      rw [wm_ac2 (b + i) e (by omega), hI.2 (b + i) (by omega)]
      exact wm_eM _ 7561
    refine ⟨pk_in (b + i) 192 (by omega) e, by decide, pk_in (b + i) 192 (by omega) e, nm_r (wm_ac3 (b + i) _ e (by omega) v) (nm_r (nI_1 i) (k _ ⟨?_, ?_⟩))⟩
    · intro q hq
      by_cases eq : q = i
      · subst eq
        exact wm_us
      · rw [wm_un (by omega)]
        exact hI.1 q (by omega)
    · intro j hj
      rw [wm_un (by omega)]
      exact hI.2 j (by omega)
end wmG
end
section
/-! the transform in place -/
def wm_tb (x : Int32) : Nat → Int32
  | 0 => 0
  | i + 1 => wm_tb x i ||| (((x >>> (nI i &&& 31)) &&& 1) <<< ((5 - nI i) &&& 31))
theorem wm_tb_rev : ∀ k, k < 64 → wm_tb (nI k) 6 = nI (wm_rev k) := by decide +kernel
theorem wm_rr : ∀ k, k < 64 → wm_rev (wm_rev k) = k := by decide +kernel
theorem wm_2s : ∀ s, s < 6 → 0 < 2 ^ s ∧ 2 ^ s ≤ 32 := by decide
def wm_djb (s i k : Nat) : Bool := (i == k || (wm_lo s i != wm_lo s k && wm_lo s i + 2 ^ s != wm_lo s k && wm_lo s i != wm_lo s k + 2 ^ s)) && Nat.blt (wm_lo s k + 2 ^ s) 64
theorem wm_dj_b : ((List.range 6).all fun s => (List.range 32).all fun i => (List.range 32).all fun k => wm_djb s i k) = true := by decide +kernel
theorem wm_dj_a {s i k : Nat} (hs : s < 6) (hi : i < 32) (hk : k < 32) : wm_djb s i k = true := by
  have h := wm_dj_b
  rw [List.all_eq_true] at h
  have h1 := h s (List.mem_range.mpr hs)
  rw [List.all_eq_true] at h1
  have h2 := h1 i (List.mem_range.mpr hi)
  rw [List.all_eq_true] at h2
  exact h2 k (List.mem_range.mpr hk)
theorem wm_dj {s i k : Nat} (hs : s < 6) (hi : i < 32) (hk : k < 32) (hne : i ≠ k) : wm_lo s i ≠ wm_lo s k ∧ wm_lo s i + 2 ^ s ≠ wm_lo s k ∧ wm_lo s i ≠ wm_lo s k + 2 ^ s := by
  have h := wm_dj_a hs hi hk
  unfold wm_djb at h
  simp only [Bool.and_eq_true, Bool.or_eq_true, beq_iff_eq, bne_iff_ne] at h
  rcases h.1 with h | h
  · exact absurd h hne
  · exact ⟨h.1.1, h.1.2, h.2⟩
theorem wm_lo_lt {s k : Nat} (hs : s < 6) (hk : k < 32) : wm_lo s k + 2 ^ s < 64 := by
  have h := wm_dj_a hs hk hk
  unfold wm_djb at h
  simp only [Bool.and_eq_true] at h
  exact Nat.blt_eq.mp h.2
def wm_cvb (s q : Nat) : Bool := Nat.blt (q / 2 ^ (s + 1) * 2 ^ s + q % 2 ^ s) 32 && (q == wm_lo s (q / 2 ^ (s + 1) * 2 ^ s + q % 2 ^ s) || q == wm_lo s (q / 2 ^ (s + 1) * 2 ^ s + q % 2 ^ s) + 2 ^ s)
theorem wm_cv_b : ((List.range 6).all fun s => (List.range 64).all fun q => wm_cvb s q) = true := by decide +kernel
theorem wm_cov {s q : Nat} (hs : s < 6) (hq : q < 64) : ∃ k, k < 32 ∧ (q = wm_lo s k ∨ q = wm_lo s k + 2 ^ s) := by
  have h := wm_cv_b
  rw [List.all_eq_true] at h
  have h1 := h s (List.mem_range.mpr hs)
  rw [List.all_eq_true] at h1
  have h2 := h1 q (List.mem_range.mpr hq)
  unfold wm_cvb at h2
  simp only [Bool.and_eq_true, Bool.or_eq_true, beq_iff_eq] at h2
  exact ⟨_, Nat.blt_eq.mp h2.1, h2.2⟩
theorem wm_gb : ∀ p, p < 64 → wm_p wm_g (64 - p) = wm_p wm_h p := by decide +kernel
theorem wm_pw_lt : ∀ s, s < 6 → ∀ k, k < 32 → wm_pw s k < 32 := by decide +kernel
/-- forward: the root g, no division; back: the root h, and a division by 64 -/
def wm_dir (back : Int32) (G c : wm_F) : Prop := (back = 0 ∧ G = wm_g ∧ c = 1) ∨ (back = 1 ∧ G = wm_h ∧ c = 7561)
theorem wm_dir64 {back : Int32} {G c : wm_F} (h : wm_dir back G c) : wm_p G 64 = 1 ∧ wm_p G 32 = -1 := by
  rcases h with ⟨_, rfl, _⟩ | ⟨_, rfl, _⟩
  · exact ⟨wm_g64, wm_g32⟩
  · exact ⟨wm_h64, wm_h32⟩
section wmT
variable {post : SX → Prop} {tl pl rd : Int32} {tx pt rt df wr : Nat → Int32}
theorem wm_tbw {p : Int32 → Prop} {wk : Nat → Int32} {x : Int32} (k : Nat) (ex : x = nI k) (hk : k < 64) (h : p (nI (wm_rev k))) : wpX_turnedBits p (tl, pl, rd, tx, pt, rt, wk, df, wr) x := by
  subst ex
  unfold wpX_turnedBits
  dsimp only
  rw [← wm_tb_rev k hk] at h
  refine loop_0 (fun n i s => wX_turnedBits_4 p (nI k) tl pl rd tx pt rt wk df wr n s (nI i)) (fun i s => s = wm_tb (nI k) i) 6 0 rfl ?_ ?_
  · intro n s hI
    exact pk_le 6 6 (fun _ => by rw [hI]; exact h) (fun z => by omega)
  · intro n i s hi hI K
    refine pk_le 6 i (fun z => by omega) (fun _ => nm_e (nm_r (nI_1 i) (K _ ?_)))
    rw [hI]
    rfl
/-- one stage -/
def wm_SI (G : wm_F) (b s k : Nat) (w w' : Nat → wm_F) : Prop :=
  (∀ i, i < 32 → i < k → w' (b + wm_lo s i) = w (b + wm_lo s i) + w (b + wm_lo s i + 2 ^ s) * wm_p G (wm_pw s i) ∧ w' (b + wm_lo s i + 2 ^ s) = w (b + wm_lo s i) - w (b + wm_lo s i + 2 ^ s) * wm_p G (wm_pw s i))
  ∧ (∀ i, i < 32 → k ≤ i → w' (b + wm_lo s i) = w (b + wm_lo s i) ∧ w' (b + wm_lo s i + 2 ^ s) = w (b + wm_lo s i + 2 ^ s))
  ∧ (∀ j, (j < b ∨ b + 64 ≤ j) → w' j = w j)
theorem wm_SI_st {G : wm_F} {b s k : Nat} {w w' : Nat → wm_F} (hs : s < 6) (hk : k < 32) (h : wm_SI G b s k w w') :
    wm_SI G b s (k + 1) w (wm_u (wm_u w' (b + wm_lo s k) (w' (b + wm_lo s k) + w' (b + wm_lo s k + 2 ^ s) * wm_p G (wm_pw s k))) (b + wm_lo s k + 2 ^ s) (w' (b + wm_lo s k) - w' (b + wm_lo s k + 2 ^ s) * wm_p G (wm_pw s k))) := by
  obtain ⟨h1, h2, h3⟩ := h
  have hp := (wm_2s s hs).1
  have hl := wm_lo_lt hs hk
  have e := h2 k hk (Nat.le_refl k)
  rw [e.1, e.2]
  refine ⟨fun i hi hik => ?_, fun i hi hik => ?_, fun j hj => ?_⟩
  · by_cases ei : i = k
    · subst ei
      refine ⟨?_, wm_us⟩
      rw [wm_un (by omega), wm_us]
    · have d := wm_dj hs hi hk ei
      rw [wm_un (by omega), wm_un (by omega), wm_un (by omega), wm_un (by omega)]
      exact h1 i hi (by omega)
  · have d := wm_dj hs hi hk (by omega)
    rw [wm_un (by omega), wm_un (by omega), wm_un (by omega), wm_un (by omega)]
    exact h2 i hi (by omega)
  · rw [wm_un (by omega), wm_un (by omega)]
    exact h3 j hj
theorem wm_79 {J70 : Int32 → Int32 → Int32 → Int32 → (Nat → Int32) → (Nat → Int32) → (Nat → Int32) → (Nat → Int32) → (Nat → Int32) → (Nat → Int32) → Prop} {back : Int32} {G c : wm_F} {b s : Nat} {w : Nat → wm_F} (hd : wm_dir back G c) (hb : b + 64 ≤ 192) (hs : s < 6) (hr : ∀ k, k < 64 → rt k = wm_e (wm_p wm_g k))
    (hJ : ∀ w', wm_SI G b s 32 w w' → J70 (nI (2 ^ (s + 1))) tl pl rd tx pt rt (wm_a w') df wr) :
    ∀ n k w', k ≤ 32 → 32 - k < n → wm_SI G b s k w w' → wX_transform_79 post J70 (nI b) back (nI (2 ^ s)) n (nI k) tl pl rd tx pt rt (wm_a w') df wr := by
  intro n
  have hp := wm_2s s hs
  have hz : ¬ nI (2 ^ s) = 0 := nI_ne0 hp.1 (by omega)
  induction n with
  | zero => intro k w' _ h; omega
  | succ n ih =>
    intro k w' hk hn hI
    refine pk_le 32 k (fun h => ?_) (fun h => ?_)
    · have e : k = 32 := by omega
      subst e
      exact nm_r (e' := nI (2 ^ (s + 1))) (pk_mul (2 ^ s) 2) (hJ w' hI)
    · have hl := wm_lo_lt hs h
      have hpw := wm_pw_lt s hs k h
      have ed : nI k / nI (2 ^ s) = nI (k / 2 ^ s) := pk_div (by omega) hp.1 (by omega)
      have e6 : (nI b + nI k / nI (2 ^ s) * 2 * nI (2 ^ s)) + nI (k % 2 ^ s) = nI (b + wm_lo s k) := by
        rw [ed, show (2 : Int32) = nI 2 from rfl, pk_mul, pk_mul, nI_add, nI_add]
        exact congrArg nI (Nat.add_assoc _ _ _)
      have e7 : nI (k % 2 ^ s) * (32 / nI (2 ^ s)) = nI (wm_pw s k) := by
        rw [show (32 : Int32) = nI 32 from rfl, pk_div (by omega) hp.1 (by omega), pk_mul]
        rfl
      have K := ih (k + 1) _ (by omega) (by omega) (wm_SI_st hs h hI)
      refine ⟨hz, nm_r (e' := nI (k % 2 ^ s)) (pk_rem (by omega) hp.1 (by omega)) ⟨hz, nm_r (e' := nI (b + wm_lo s k)) e6 ⟨hz, nm_r (e' := nI (wm_pw s k)) e7 ?_⟩⟩⟩
      rcases hd with ⟨rfl, rfl, rfl⟩ | ⟨rfl, rfl, rfl⟩
      · refine br_t rfl ?_
        unfold wX_transform_140 wX_transform_142
        exact wm_bf (b + wm_lo s k) (b + wm_lo s k + 2 ^ s) (wm_pw s k) rfl (nI_add _ _) rfl (by omega) (by omega) (by omega) (by omega) (hr _ (by omega)) (nm_r (nI_1 k) K)
      · refine br_f (by decide) (pk_le (wm_pw s k) 0 (fun h0 => ?_) (fun h0 => ?_))
        · have e0 : wm_pw s k = 0 := by omega
          unfold wX_transform_140 wX_transform_142
          exact wm_bf (b + wm_lo s k) (b + wm_lo s k + 2 ^ s) (wm_pw s k) rfl (nI_add _ _) rfl (by omega) (by omega) (by omega) (by omega) (by rw [hr _ (by omega), e0]; rfl) (nm_r (nI_1 k) K)
        · unfold wX_transform_142
          exact wm_bf (b + wm_lo s k) (b + wm_lo s k + 2 ^ s) (64 - wm_pw s k) rfl (nI_add _ _) (pk_sub (a := 64) (by omega)) (by omega) (by omega) (by omega) (by omega) (by rw [hr _ (by omega), wm_gb _ (by omega)]) (nm_r (nI_1 k) K)
theorem wm_70 {back : Int32} {G c : wm_F} {b : Nat} {x : Nat → wm_F} {w0 : Nat → wm_F} (hd : wm_dir back G c) (hb : b + 64 ≤ 192) (hr : ∀ k, k < 64 → rt k = wm_e (wm_p wm_g k))
    (hP : ∀ w', (∀ q, q < 64 → w' (b + q) = wm_dft G x q * c) → (∀ j, (j < b ∨ b + 64 ≤ j) → w' j = w0 j) → post (tl, pl, rd, tx, pt, rt, wm_a w', df, wr)) :
    ∀ d s w, s + d = 6 → (∀ q, q < 64 → w (b + q) = wm_L G s x q) → (∀ j, (j < b ∨ b + 64 ≤ j) → w j = w0 j) → wX_transform_70 post (nI b) back (d + 1) (nI (2 ^ s)) tl pl rd tx pt rt (wm_a w) df wr := by
  intro d
  have g := wm_dir64 hd
  induction d with
  | zero =>
    intro s w hsd hL ho
    have e : s = 6 := by omega
    subst e
    refine br_t (by decide) ?_
    rcases hd with ⟨rfl, rfl, rfl⟩ | ⟨rfl, rfl, rfl⟩
    · refine br_t rfl (hP w (fun q hq => ?_) ho)
      rw [hL q hq, wm_L_6 g.1 x hq, wm_m1]
    · refine br_f (by decide) (wm_div b rfl hb (fun w' h1 h2 => hP w' (fun q hq => ?_) (fun j hj => ?_)))
      · rw [h1 q hq, hL q hq, wm_L_6 g.1 x hq]
      · rw [h2 j hj, ho j hj]
  | succ d ih =>
    intro s w hsd hL ho
    have hs : s < 6 := by omega
    have hp := wm_2s s hs
    refine br_f (nI_ge (b := 64) (by omega) (by decide)) ⟨33, ?_⟩
    refine wm_79 (c := c) (w := w) hd hb hs hr (fun w' hI => ih (s + 1) w' (by omega) (fun q hq => ?_) (fun j hj => ?_)) 33 0 w (by omega) (by omega) ⟨fun i _ h => by omega, fun i _ _ => ⟨rfl, rfl⟩, fun _ _ => rfl⟩
    · obtain ⟨k, hk, e | e⟩ := wm_cov hs hq
      · have hl := wm_lo_lt hs hk
        rw [e, (hI.1 k hk hk).1, (wm_L_st g.1 g.2 x hs hk).1, hL _ (by omega), Nat.add_assoc, hL _ (by omega), wm_mc]
      · have hl := wm_lo_lt hs hk
        rw [e, ← Nat.add_assoc, (hI.1 k hk hk).2, (wm_L_st g.1 g.2 x hs hk).2, hL _ (by omega), Nat.add_assoc, hL _ (by omega), wm_mc]
    · rw [hI.2.2 j hj, ho j hj]
/-- the whole transform -/
theorem wm_tr {back x1 : Int32} {G c : wm_F} {w : Nat → wm_F} (b : Nat) (ex : x1 = nI b) (hd : wm_dir back G c) (hb : b + 64 ≤ 192) (hr : ∀ k, k < 64 → rt k = wm_e (wm_p wm_g k))
    (hP : ∀ w', (∀ q, q < 64 → w' (b + q) = wm_dft G (fun t => w (b + t)) q * c) → (∀ j, (j < b ∨ b + 64 ≤ j) → w' j = w j) → post (tl, pl, rd, tx, pt, rt, wm_a w', df, wr)) :
    wpX_transform post (tl, pl, rd, tx, pt, rt, wm_a w, df, wr) x1 back := by
  subst ex
  unfold wpX_transform
  dsimp only
  refine loop_0 (fun n i s => wX_transform_2 post (nI b) back tl pl rd n (nI i) tx pt rt (wm_a s) df wr) (fun i s => (∀ q, q < 64 → s (b + q) = if q < i ∨ wm_rev q < i then w (b + wm_rev q) else w (b + q)) ∧ (∀ j, (j < b ∨ b + 64 ≤ j) → s j = w j)) 64 w ⟨fun q hq => ?_, fun _ _ => rfl⟩ ?_ ?_
  · rw [if_neg (by omega)]
  · intro n s hI
    refine pk_le 64 64 (fun _ => ⟨7, wm_70 (x := fun t => w (b + t)) (w0 := w) hd hb hr hP 6 0 s (by omega) (fun q hq => ?_) hI.2⟩) (fun z => by omega)
    rw [hI.1 q hq, if_pos (Or.inl hq), wm_L_0 G _ hq]
  · intro n i s hi hI K
    have hv := wm_rev_lt i
    have rr := wm_rr i hi
    refine pk_le 64 i (fun z => by omega) (fun _ => wm_tbw i rfl hi ?_)
    have e1 : nI b + nI i = nI (b + i) := nI_add b i
    have e2 : nI b + nI (wm_rev i) = nI (b + wm_rev i) := nI_add b _
    refine pk_lt i (wm_rev i) (fun hlt => ?_) (fun hge => ?_)
    · have v1 : s (b + i) = w (b + i) := by rw [hI.1 i hi, if_neg (by omega)]
      have v2 : s (b + wm_rev i) = w (b + wm_rev i) := by rw [hI.1 _ hv, if_neg (by omega)]
      refine ⟨pk_in (b + i) 192 (by omega) e1, nm_r (e' := wm_e (w (b + i))) (by rw [wm_ac2 (b + i) e1 (by omega), v1]) ⟨pk_in (b + wm_rev i) 192 (by omega) e2, pk_in (b + i) 192 (by omega) e1, nm_r (e' := wm_a (wm_u s (b + i) (w (b + wm_rev i)))) (wm_ac3 (b + i) _ e1 (by omega) (by rw [wm_ac2 (b + wm_rev i) e2 (by omega), v2])) ⟨pk_in (b + wm_rev i) 192 (by omega) e2, nm_r (wm_ac3 (b + wm_rev i) (w (b + i)) e2 (by omega) rfl) (nm_r (nI_1 i) (K _ ⟨fun q hq => ?_, fun j hj => ?_⟩))⟩⟩⟩
      · by_cases c1 : q = wm_rev i
        · subst c1
          rw [wm_us, if_pos (by omega), rr]
        · by_cases c2 : q = i
          · subst c2
            rw [wm_un (by omega), wm_us, if_pos (by omega)]
          · have c3 : wm_rev q ≠ i := fun z => c1 (by rw [← z, wm_rr q hq])
            rw [wm_un (by omega), wm_un (by omega), hI.1 q hq]
            by_cases c4 : q < i ∨ wm_rev q < i
            · rw [if_pos c4, if_pos (by omega)]
            · rw [if_neg c4, if_neg (by omega)]
      · rw [wm_un (by omega), wm_un (by omega)]
        exact hI.2 j hj
    · refine nm_r (nI_1 i) (K _ ⟨fun q hq => ?_, hI.2⟩)
      rw [hI.1 q hq]
      by_cases c4 : q < i ∨ wm_rev q < i
      · rw [if_pos c4, if_pos (by omega)]
      · rw [if_neg c4]
        by_cases c2 : q = i
        · subst c2
          have c5 : wm_rev q = q := by omega
          rw [if_pos (by omega), c5]
        · by_cases c3 : wm_rev q = i
          · have c6 : q = wm_rev i := by rw [← c3, wm_rr q hq]
            have c5 : wm_rev i = i := by omega
            omega
          · rw [if_neg (by omega)]
end wmT
end
section
/-! what a letter counts; one product added -/
def wm_t (T : Nat → Nat) : Nat → Int32 := fun j => nI (T j)
def wm_mu (h c : Nat) : wm_F := if c = 0 then 0 else Fin.ofNat 7681 (c ^ h)
def wm_ml (l c : Nat) : wm_F := if c = l then 1 else 0
def wm_Ms (x : Int32) (mu : Nat → wm_F) : Prop := ∀ c, c ≤ 4 → ∀ (p : Int32 → Prop) (u : SX), p (wm_e (mu c)) → wpX_measure p u (nI c) x
theorem wm_ch : ∀ c, c < 5 → ∀ h, h < 4 → c ^ h < 7681 := by decide
theorem wm_Ms_mu {h : Nat} (hh : h ≤ 3) : wm_Ms (nI h) (wm_mu h) := by
  intro c hc p u hp
  obtain ⟨tl, pl, rd, tx, pt, rt, wk, df, wr⟩ := u
  unfold wpX_measure
  dsimp only
  refine br_t (nI_pos' (by omega)) (pk_eq c 0 (fun e => ?_) (fun e => ?_))
  · subst e
    exact hp
  · refine loop_0 (fun n i s => wX_measure_27 p (nI c) (nI h) tl pl rd tx pt rt wk df wr n s (nI i)) (fun i s => s = nI (c ^ i)) h 1 rfl ?_ ?_
    · intro n s hI
      refine pk_le h h (fun _ => ?_) (fun z => by omega)
      have e1 : wm_e (wm_mu h c) = nI (c ^ h) := by
        unfold wm_mu wm_e
        rw [if_neg e, Fin.val_ofNat, Nat.mod_eq_of_lt (wm_ch c (by omega) h (by omega))]
      rw [hI, ← e1]
      exact hp
    · intro n i s hi hI K
      refine pk_le h i (fun z => by omega) (fun _ => nm_e (nm_r (nI_1 i) (K _ ?_)))
      rw [hI, pk_mul]
      rfl
theorem wm_neg4 : ∀ l, l < 5 → 1 ≤ l → ¬ (0 : Int32) ≤ -(nI l) := by decide
theorem wm_Ms_ml {l : Nat} (h1 : 1 ≤ l) (h4 : l ≤ 4) : wm_Ms (-(nI l)) (wm_ml l) := by
  intro c hc p u hp
  obtain ⟨tl, pl, rd, tx, pt, rt, wk, df, wr⟩ := u
  unfold wpX_measure
  dsimp only
  refine br_f (wm_neg4 l (by omega) h1) ?_
  rw [Int32.neg_neg]
  unfold wm_ml at hp
  refine pk_eq c l (fun e => ?_) (fun e => ?_)
  · rw [if_pos e] at hp
    exact hp
  · rw [if_neg e] at hp
    exact hp
section wmP
variable {post : SX → Prop} {rd : Int32} {rt df wr : Nat → Int32} {T P : Nat → Nat} {n m : Nat}
theorem wm_151 {tl pl : Int32} {tx pt : Nat → Int32} {w : Nat → wm_F} {f : wm_F}
    (hP : ∀ w' : Nat → wm_F, (∀ q, q < 64 → w' (128 + q) = w (128 + q) + w (64 + q) * w (0 + q) * f) → post (tl, pl, rd, tx, pt, rt, wm_a w', df, wr)) :
    ∃ k, wX_addProduct_151 post (wm_e f) tl pl rd k 0 tx pt rt (wm_a w) df wr := by
  refine loop_0 (fun n i s => wX_addProduct_151 post (wm_e f) tl pl rd n (nI i) tx pt rt (wm_a s) df wr) (fun i s => (∀ q, q < i → s (128 + q) = w (128 + q) + w (64 + q) * w (0 + q) * f) ∧ (∀ j, (j < 128 ∨ 128 + i ≤ j) → s j = w j)) 64 w ⟨fun q hq => by omega, fun _ _ => rfl⟩ ?_ ?_
  · intro k s hI
    exact pk_le 64 64 (fun _ => hP s hI.1) (fun z => by omega)
  · intro k i s hi hI K
    have e0 : (0 : Int32) + nI i = nI (0 + i) := nI_add 0 i
    have e1 : (64 : Int32) + nI i = nI (64 + i) := nI_add 64 i
    have e2 : (128 : Int32) + nI i = nI (128 + i) := nI_add 128 i
    have v1 : wm_a s ((64 : Int32) + nI i).toNatClampNeg = wm_e (w (64 + i)) := by rw [wm_ac2 (64 + i) e1 (by omega), hI.2 _ (by omega)]
    have v0 : wm_a s ((0 : Int32) + nI i).toNatClampNeg = wm_e (w (0 + i)) := by rw [wm_ac2 (0 + i) e0 (by omega), hI.2 _ (by omega)]
    have v2 : wm_a s ((128 : Int32) + nI i).toNatClampNeg = wm_e (w (128 + i)) := by rw [wm_ac2 (128 + i) e2 (by omega), hI.2 _ (by omega)]
    refine pk_le 64 i (fun z => by omega) (fun _ => ?_)
    refine ⟨pk_in (64 + i) 192 (by omega) e1, pk_in (0 + i) 192 (by omega) e0, by decide, by decide, nm_r (e' := wm_e (w (64 + i) * w (0 + i) * f)) (by rw [v1, v0, wm_eM, wm_eM]) ⟨pk_in (128 + i) 192 (by omega) e2, by decide, pk_in (128 + i) 192 (by omega) e2, nm_r (wm_ac3 (128 + i) _ e2 (by omega) (by rw [v2, wm_eA])) (nm_r (nI_1 i) (K _ ⟨fun q hq => ?_, fun j hj => ?_⟩))⟩⟩
    · by_cases eq : q = i
      · subst eq
        exact wm_us
      · rw [wm_un (by omega)]
        exact hI.1 q (by omega)
    · rw [wm_un (by omega)]
      exact hI.2 j (by omega)
theorem wm_87 {x2 : Int32} {f : wm_F} {nu : Nat → wm_F} {w : Nat → wm_F} {A : Nat → wm_F} (h2 : wm_Ms x2 nu) (hT : ∀ j, T j ≤ 4) (hr : ∀ k, k < 64 → rt k = wm_e (wm_p wm_g k)) (hm : 1 ≤ m) (hm2 : m ≤ 12) (hn : 1 ≤ n) (hn2 : n ≤ 40)
    (hA : ∀ a, a < 64 → w (64 + a) = A a) (h0 : ∀ a, a < 64 → w a = 0)
    (hP : ∀ w' : Nat → wm_F, (∀ q, q < 64 → w' (128 + q) = w (128 + q) + wm_dft wm_g A q * wm_dft wm_g (fun b => if b < n + m - 1 then nu (T (b % n)) else 0) q * f) → post (nI n, nI m, rd, wm_t T, wm_t P, rt, wm_a w', df, wr)) :
    ∃ k, wX_addProduct_87 post x2 (wm_e f) (nI n) (nI m) rd k 0 (wm_t T) (wm_t P) rt (wm_a w) df wr := by
  have el : nI n + nI m - 1 = nI (n + m - 1) := by
    rw [nI_add]
    exact pk_sub (b := 1) (by omega)
  refine loop_0 (fun k i s => wX_addProduct_87 post x2 (wm_e f) (nI n) (nI m) rd k (nI i) (wm_t T) (wm_t P) rt (wm_a s) df wr) (fun i s => (∀ b, b < 64 → s b = if b < i then nu (T (b % n)) else 0) ∧ (∀ j, 64 ≤ j → s j = w j)) (n + m - 1) w ⟨fun b hb => ?_, fun _ _ => rfl⟩ ?_ ?_
  · rw [h0 b hb, if_neg (by omega)]
  · intro k s hI
    refine pk_le (n + m - 1) (n + m - 1) (fun _ => ?_) (fun z => by omega) el
    refine wm_tr 64 rfl (Or.inl ⟨rfl, rfl, rfl⟩) (by omega) hr (fun w1 a1 a2 => ?_)
    refine wm_tr 0 rfl (Or.inl ⟨rfl, rfl, rfl⟩) (by omega) hr (fun w2 b1 b2 => ?_)
    refine wm_151 (fun w' c => hP w' (fun q hq => ?_))
    rw [c q hq, b2 (128 + q) (by omega), a2 (128 + q) (by omega), hI.2 (128 + q) (by omega), b2 (64 + q) (by omega), a1 q hq, b1 q hq, wm_m1, wm_m1]
    rw [wm_dft_congr (y := A) q (fun t ht => by rw [hI.2 _ (by omega), hA t ht])]
    rw [wm_dft_congr (x := fun t => w1 (0 + t)) (y := fun b => if b < n + m - 1 then nu (T (b % n)) else 0) q (fun t ht => by rw [a2 _ (by omega), Nat.zero_add, hI.1 t ht])]
  · intro k i s hi hI K
    have hmod : i % n < n := Nat.mod_lt i (by omega)
    have e0 : (0 : Int32) + nI i = nI (0 + i) := nI_add 0 i
    have em : nI i - nI i / nI n * nI n = nI (i % n) := pk_rem (by omega) (by omega) (by omega)
    refine pk_le (n + m - 1) i (fun z => by omega) (fun _ => ?_) el
    refine ⟨nI_ne0 (by omega) (by omega), pk_in (i % n) 40 (by omega) em, ?_⟩
    have et : wm_t T (nI i - nI i / nI n * nI n).toNatClampNeg = nI (T (i % n)) := by rw [em, nI_clamp (by omega)]; rfl
    rw [et]
    refine h2 _ (hT _) _ _ ⟨pk_in (0 + i) 192 (by omega) e0, nm_r (wm_ac3 (0 + i) _ e0 (by omega) rfl) (nm_r (nI_1 i) (K _ ⟨fun b hb => ?_, fun j hj => ?_⟩))⟩
    · by_cases eb : b = 0 + i
      · subst eb
        rw [wm_us, if_pos (by omega), Nat.zero_add]
      · rw [wm_un eb, hI.1 b hb]
        by_cases c : b < i
        · rw [if_pos c, if_pos (by omega)]
        · rw [if_neg c, if_neg (by omega)]
    · rw [wm_un (by omega)]
      exact hI.2 j hj
theorem wm_40 {x1 x2 : Int32} {f : wm_F} {mu nu : Nat → wm_F} {w : Nat → wm_F} (h1 : wm_Ms x1 mu) (h2 : wm_Ms x2 nu) (hT : ∀ j, T j ≤ 4) (hPt : ∀ j, P j ≤ 4) (hr : ∀ k, k < 64 → rt k = wm_e (wm_p wm_g k)) (hm : 1 ≤ m) (hm2 : m ≤ 12) (hn : 1 ≤ n) (hn2 : n ≤ 40)
    (hA : ∀ a, a < 64 → w (64 + a) = 0) (h0 : ∀ a, a < 64 → w a = 0)
    (hP : ∀ w' : Nat → wm_F, (∀ q, q < 64 → w' (128 + q) = w (128 + q) + wm_dft wm_g (fun a => if a < m then mu (P (m - 1 - a)) else 0) q * wm_dft wm_g (fun b => if b < n + m - 1 then nu (T (b % n)) else 0) q * f) → post (nI n, nI m, rd, wm_t T, wm_t P, rt, wm_a w', df, wr)) :
    ∃ k, wX_addProduct_40 post x1 x2 (wm_e f) (nI n) (nI m) rd k 0 (wm_t T) (wm_t P) rt (wm_a w) df wr := by
  refine loop_0 (fun k i s => wX_addProduct_40 post x1 x2 (wm_e f) (nI n) (nI m) rd k (nI i) (wm_t T) (wm_t P) rt (wm_a s) df wr) (fun i s => (∀ a, a < 64 → s (64 + a) = if a < m ∧ m - 1 - a < i then mu (P (m - 1 - a)) else 0) ∧ (∀ a, a < 64 → s a = 0) ∧ (∀ j, 128 ≤ j → s j = w j)) m w ⟨fun a ha => ?_, h0, fun _ _ => rfl⟩ ?_ ?_
  · rw [hA a ha, if_neg (by omega)]
  · intro k s hI
    refine pk_le m m (fun _ => ?_) (fun z => by omega)
    refine wm_87 (A := fun a => if a < m then mu (P (m - 1 - a)) else 0) h2 hT hr hm hm2 hn hn2 (fun a ha => ?_) hI.2.1 (fun w' c => hP w' (fun q hq => ?_))
    · rw [hI.1 a ha]
      by_cases c : a < m
      · rw [if_pos c, if_pos ⟨c, by omega⟩]
      · rw [if_neg c, if_neg (by omega)]
    · rw [c q hq, hI.2.2 (128 + q) (by omega)]
  · intro k i s hi hI K
    have e : ((64 : Int32) + nI m) - 1 - nI i = nI (64 + m - 1 - i) := by
      rw [show (64 : Int32) + nI m = nI (64 + m) from nI_add 64 m, show nI (64 + m) - 1 = nI (64 + m - 1) from pk_sub (b := 1) (by omega), pk_sub (by omega)]
    refine pk_le m i (fun z => by omega) (fun _ => ⟨pk_in i 12 (by omega), ?_⟩)
    have et : wm_t P (nI i).toNatClampNeg = nI (P i) := by rw [nI_clamp (by omega)]; rfl
    rw [et]
    refine h1 _ (hPt _) _ _ ⟨pk_in (64 + m - 1 - i) 192 (by omega) e, nm_r (wm_ac3 (64 + m - 1 - i) _ e (by omega) rfl) (nm_r (nI_1 i) (K _ ⟨fun a ha => ?_, fun a ha => ?_, fun j hj => ?_⟩))⟩
    · by_cases ea : 64 + a = 64 + m - 1 - i
      · have e2 : m - 1 - a = i := by omega
        rw [ea, wm_us, if_pos (by omega), e2]
      · rw [wm_un ea, hI.1 a ha]
        by_cases c : a < m ∧ m - 1 - a < i
        · rw [if_pos c, if_pos (by omega)]
        · rw [if_neg c, if_neg (by omega)]
    · rw [wm_un (by omega)]
      exact hI.2.1 a ha
    · rw [wm_un (by omega)]
      exact hI.2.2 j hj
theorem wm_ap {x1 x2 x3 : Int32} {f : wm_F} {mu nu : Nat → wm_F} {w : Nat → wm_F} (h1 : wm_Ms x1 mu) (h2 : wm_Ms x2 nu) (e3 : x3 = wm_e f) (hT : ∀ j, T j ≤ 4) (hPt : ∀ j, P j ≤ 4) (hr : ∀ k, k < 64 → rt k = wm_e (wm_p wm_g k)) (hm : 1 ≤ m) (hm2 : m ≤ 12) (hn : 1 ≤ n) (hn2 : n ≤ 40)
    (hP : ∀ w' : Nat → wm_F, (∀ q, q < 64 → w' (128 + q) = w (128 + q) + wm_dft wm_g (fun a => if a < m then mu (P (m - 1 - a)) else 0) q * wm_dft wm_g (fun b => if b < n + m - 1 then nu (T (b % n)) else 0) q * f) → post (nI n, nI m, rd, wm_t T, wm_t P, rt, wm_a w', df, wr)) :
    wpX_addProduct post (nI n, nI m, rd, wm_t T, wm_t P, rt, wm_a w, df, wr) x1 x2 x3 := by
  subst e3
  unfold wpX_addProduct
  dsimp only
  refine loop_0 (fun k i s => wX_addProduct_3 post x1 x2 (wm_e f) (nI n) (nI m) rd k (nI i) (wm_t T) (wm_t P) rt (wm_a s) df wr) (fun i s => (∀ q, q < i → s (64 + q) = 0 ∧ s q = 0) ∧ (∀ j, 128 ≤ j → s j = w j)) 64 w ⟨fun q hq => by omega, fun _ _ => rfl⟩ ?_ ?_
  · intro k s hI
    refine pk_le 64 64 (fun _ => ?_) (fun z => by omega)
    refine wm_40 h1 h2 hT hPt hr hm hm2 hn hn2 (fun a ha => (hI.1 a ha).1) (fun a ha => (hI.1 a ha).2) (fun w' c => hP w' (fun q hq => ?_))
    rw [c q hq, hI.2 (128 + q) (by omega)]
  · intro k i s hi hI K
    have e0 : (0 : Int32) + nI i = nI (0 + i) := nI_add 0 i
    have e1 : (64 : Int32) + nI i = nI (64 + i) := nI_add 64 i
    refine pk_le 64 i (fun z => by omega) (fun _ => ?_)
    refine ⟨pk_in (64 + i) 192 (by omega) e1, nm_r (wm_ac3 (64 + i) 0 e1 (by omega) rfl) ⟨pk_in (0 + i) 192 (by omega) e0, nm_r (wm_ac3 (0 + i) 0 e0 (by omega) rfl) (nm_r (nI_1 i) (K _ ⟨fun q hq => ?_, fun j hj => ?_⟩))⟩⟩
    · by_cases eq : q = i
      · subst eq
        refine ⟨?_, ?_⟩
        · rw [wm_un (by omega), wm_us]
        · exact if_pos (by omega)
      · rw [wm_un (by omega), wm_un (by omega), wm_un (by omega), wm_un (by omega)]
        exact hI.1 q (by omega)
    · rw [wm_un (by omega), wm_un (by omega)]
      exact hI.2 j hj
end wmP
end
section
/-! the two rows of sums -/
def wm_n (f : Nat → Nat) : Nat → Nat
  | 0 => 0
  | k + 1 => wm_n f k + f k
def wm_mm (p t : Nat) : Nat := if p = t ∨ p = 0 ∨ t = 0 then 0 else 1
def wm_sq (p t : Nat) : Nat := p * t * ((p - t) + (t - p)) * ((p - t) + (t - p))
def wm_d (T P : Nat → Nat) (n m i : Nat) : Nat := wm_n (fun j => wm_mm (P j) (T ((i + j) % n))) m
theorem wm_n_le {f : Nat → Nat} {c : Nat} : ∀ m, (∀ j, j < m → f j ≤ c) → wm_n f m ≤ m * c := by
  intro m
  induction m with
  | zero => intro _; exact Nat.zero_le _
  | succ m ih =>
    intro h
    have a := ih (fun j hj => h j (by omega))
    have b := h m (by omega)
    show wm_n f m + f m ≤ (m + 1) * c
    rw [Nat.succ_mul]
    omega
theorem wm_n_zero {f g : Nat → Nat} : ∀ m, (∀ j, j < m → (f j = 0 ↔ g j = 0)) → (wm_n f m = 0 ↔ wm_n g m = 0) := by
  intro m
  induction m with
  | zero => intro _; exact Iff.rfl
  | succ m ih =>
    intro h
    have a := ih (fun j hj => h j (by omega))
    have b := h m (by omega)
    show wm_n f m + f m = 0 ↔ wm_n g m + g m = 0
    omega
theorem wm_s_nat (f : Nat → Nat) : ∀ m, wm_s (fun j => Fin.ofNat 7681 (f j)) m = Fin.ofNat 7681 (wm_n f m) := by
  intro m
  induction m with
  | zero => rfl
  | succ m ih =>
    show wm_s (fun j => Fin.ofNat 7681 (f j)) m + Fin.ofNat 7681 (f m) = Fin.ofNat 7681 (wm_n f m + f m)
    rw [ih]
    apply Fin.ext
    rw [Fin.val_add, Fin.val_ofNat, Fin.val_ofNat, Fin.val_ofNat, ← Nat.add_mod]
theorem wm_e_nat {k : Nat} (h : k < 7681) : wm_e (Fin.ofNat 7681 k) = nI k := by
  unfold wm_e
  rw [Fin.val_ofNat, Nat.mod_eq_of_lt h]
def wm_D (p t : Nat) : wm_F := ((0 + wm_mu 3 p * wm_mu 1 t * 1) + wm_mu 2 p * wm_mu 2 t * 7679) + wm_mu 1 p * wm_mu 3 t * 1
theorem wm_D_sq : ∀ p, p < 5 → ∀ t, t < 5 → wm_D p t = Fin.ofNat 7681 (wm_sq p t) := by decide +kernel
theorem wm_sq_mm : ∀ p, p < 5 → ∀ t, t < 5 → wm_sq p t ≤ 36 ∧ (wm_sq p t = 0 ↔ wm_mm p t = 0) := by decide +kernel
theorem wm_mm_1 (p t : Nat) : wm_mm p t ≤ 1 := by unfold wm_mm; split <;> omega
def wm_V : Nat → Nat → Nat → wm_F
  | 0 => fun p t => 0 + wm_mu 0 p * wm_mu 0 t * 1
  | l + 1 => fun p t => wm_V l p t + wm_ml (l + 1) p * wm_ml (l + 1) t * 7680
theorem wm_V_mm : ∀ p, p < 5 → ∀ t, t < 5 → wm_V 4 p t = Fin.ofNat 7681 (wm_mm p t) := by decide +kernel
theorem wm_d_le (T P : Nat → Nat) (n m i : Nat) : wm_d T P n m i ≤ m := by
  have h := wm_n_le (f := fun j => wm_mm (P j) (T ((i + j) % n))) (c := 1) m (fun j _ => wm_mm_1 _ _)
  unfold wm_d
  omega
def wm_I (T P : Nat → Nat) (n m : Nat) (w : Nat → wm_F) (V : Nat → Nat → wm_F) : Prop :=
  ∀ i, i < n → wm_dft wm_h (fun q => w (128 + q)) (i + m - 1) * 7561 = wm_s (fun j => V (P j) (T ((i + j) % n))) m
section wmQ
variable {post : SX → Prop} {rd : Int32} {rt df wr : Nat → Int32} {T P : Nat → Nat} {n m : Nat}
theorem wm_I_0 {w : Nat → wm_F} (h : ∀ q, q < 64 → w (128 + q) = 0) : wm_I T P n m w (fun _ _ => 0) := by
  intro i _
  rw [wm_dft_congr (y := fun _ => 0) _ h]
  unfold wm_dft
  rw [wm_s_zero 64 (fun t _ => wm_0m _), wm_0m, wm_s_zero m (fun _ _ => rfl)]
theorem wm_I_ap {w w' : Nat → wm_F} {V : Nat → Nat → wm_F} {mu nu : Nat → wm_F} {f : wm_F} (hm : 1 ≤ m) (hm2 : m ≤ 12) (hn2 : n ≤ 40) (h : wm_I T P n m w V)
    (hw : ∀ q, q < 64 → w' (128 + q) = w (128 + q) + wm_dft wm_g (fun a => if a < m then mu (P (m - 1 - a)) else 0) q * wm_dft wm_g (fun b => if b < n + m - 1 then nu (T (b % n)) else 0) q * f) :
    wm_I T P n m w' (fun p t => V p t + mu p * nu t * f) := by
  intro i hi
  rw [wm_dft_congr (x := fun q => w' (128 + q)) _ hw]
  rw [wm_lin (fun q => w (128 + q)) (fun q => wm_dft wm_g (fun a => if a < m then mu (P (m - 1 - a)) else 0) q * wm_dft wm_g (fun b => if b < n + m - 1 then nu (T (b % n)) else 0) q) f, h i hi]
  rw [wm_cv (mu := fun j => mu (P j)) (nu := fun b => nu (T (b % n))) hm hm2 hn2 hi (fun a _ => rfl) (fun b _ => rfl)]
  rw [← wm_s_mulr, ← wm_s_add]
theorem wm_apI {x1 x2 x3 : Int32} {f : wm_F} {mu nu : Nat → wm_F} {w : Nat → wm_F} {V : Nat → Nat → wm_F} (h1 : wm_Ms x1 mu) (h2 : wm_Ms x2 nu) (e3 : x3 = wm_e f) (hT : ∀ j, T j ≤ 4) (hPt : ∀ j, P j ≤ 4) (hr : ∀ k, k < 64 → rt k = wm_e (wm_p wm_g k)) (hm : 1 ≤ m) (hm2 : m ≤ 12) (hn : 1 ≤ n) (hn2 : n ≤ 40)
    (hI : wm_I T P n m w V)
    (hP : ∀ w' : Nat → wm_F, wm_I T P n m w' (fun p t => V p t + mu p * nu t * f) → post (nI n, nI m, rd, wm_t T, wm_t P, rt, wm_a w', df, wr)) :
    wpX_addProduct post (nI n, nI m, rd, wm_t T, wm_t P, rt, wm_a w, df, wr) x1 x2 x3 :=
  wm_ap h1 h2 e3 hT hPt hr hm hm2 hn hn2 (fun w' hw => hP w' (wm_I_ap hm hm2 hn2 hI hw))
theorem wm_trI {w : Nat → wm_F} {V : Nat → Nat → wm_F} (hr : ∀ k, k < 64 → rt k = wm_e (wm_p wm_g k)) (hm : 1 ≤ m) (hm2 : m ≤ 12) (hn2 : n ≤ 40)
    (hI : wm_I T P n m w V)
    (hP : ∀ w' : Nat → wm_F, (∀ i, i < n → w' (128 + (i + m - 1)) = wm_s (fun j => V (P j) (T ((i + j) % n))) m) → post (nI n, nI m, rd, wm_t T, wm_t P, rt, wm_a w', df, wr)) :
    wpX_transform post (nI n, nI m, rd, wm_t T, wm_t P, rt, wm_a w, df, wr) 128 1 := by
  refine wm_tr 128 rfl (Or.inr ⟨rfl, rfl, rfl⟩) (by omega) hr (fun w' h _ => hP w' (fun i hi => ?_))
  rw [h (i + m - 1) (by omega), hI i hi]
theorem wm_p151 {w : Nat → wm_F} (hm : 1 ≤ m) (hm2 : m ≤ 12) (hn2 : n ≤ 40)
    (hP : ∀ wr' : Nat → Int32, (∀ i, i < n → wr' i = wm_e (w (128 + (i + m - 1)))) → post (nI n, nI m, rd, wm_t T, wm_t P, rt, wm_a w, df, wr')) :
    ∃ k, wX_prepare_151 post (nI n) (nI m) rd k 0 (wm_t T) (wm_t P) rt (wm_a w) df wr := by
  refine loop_0 (fun k i s => wX_prepare_151 post (nI n) (nI m) rd k (nI i) (wm_t T) (wm_t P) rt (wm_a w) df s) (fun i s => ∀ j, j < i → s j = wm_e (w (128 + (j + m - 1)))) n wr (fun j hj => by omega) ?_ ?_
  · intro k s hI
    exact pk_le n n (fun _ => hP s hI) (fun z => by omega)
  · intro k i s hi hI K
    have e : ((128 : Int32) + nI i) + nI m - 1 = nI (128 + (i + m - 1)) := by
      rw [show (128 : Int32) + nI i = nI (128 + i) from nI_add 128 i, nI_add, show nI (128 + i + m) - 1 = nI (128 + i + m - 1) from pk_sub (b := 1) (by omega), show 128 + i + m - 1 = 128 + (i + m - 1) from by omega]
    refine pk_le n i (fun z => by omega) (fun _ => ⟨pk_in (128 + (i + m - 1)) 192 (by omega) e, pk_in i 40 (by omega), nm_e (nm_r (nI_1 i) (K _ (fun j hj => ?_)))⟩)
    rw [nI_clamp (n := i) (by omega), wm_ac2 (128 + (i + m - 1)) e (by omega)]
    by_cases ej : j = i
    · subst ej
      exact pk_us
    · rw [pk_un ej]
      exact hI j (by omega)
theorem wm_p119 (hT : ∀ j, T j ≤ 4) (hPt : ∀ j, P j ≤ 4) (hr : ∀ k, k < 64 → rt k = wm_e (wm_p wm_g k)) (hm : 1 ≤ m) (hm2 : m ≤ 12) (hn : 1 ≤ n) (hn2 : n ≤ 40)
    (hP : ∀ (w' : Nat → wm_F) (wr' : Nat → Int32), (∀ i, i < n → wr' i = nI (wm_d T P n m i)) → post (nI n, nI m, rd, wm_t T, wm_t P, rt, wm_a w', df, wr')) :
    ∀ (d l : Nat) (w : Nat → wm_F), l + d = 4 → wm_I T P n m w (wm_V l) → wX_prepare_119 post (d + 1) (nI (l + 1)) (nI n) (nI m) rd (wm_t T) (wm_t P) rt (wm_a w) df wr := by
  intro d
  induction d with
  | zero =>
    intro l w hl hI
    have e : l = 4 := by omega
    subst e
    refine br_t (by decide) (wm_trI hr hm hm2 hn2 hI (fun w' h => ?_))
    refine wm_p151 hm hm2 hn2 (fun wr' h2 => hP w' wr' (fun i hi => ?_))
    rw [h2 i hi, h i hi, wm_s_congr (g := fun j => Fin.ofNat 7681 (wm_mm (P j) (T ((i + j) % n)))) m (fun j _ => wm_V_mm _ (Nat.lt_succ_of_le (hPt j)) _ (Nat.lt_succ_of_le (hT _))), wm_s_nat]
    have q := wm_d_le T P n m i
    exact wm_e_nat (by unfold wm_d at q; omega)
  | succ d ih =>
    intro l w hl hI
    refine br_f (nI_nlt (a := 4) (by omega) (by decide)) ?_
    have h := wm_Ms_ml (l := l + 1) (by omega) (by omega)
    exact wm_apI (f := 7680) h h rfl hT hPt hr hm hm2 hn hn2 hI (fun w' hI' => nm_r (nI_1 (l + 1)) (ih (l + 1) w' (by omega) hI'))
theorem wm_p69 {w : Nat → wm_F} (hT : ∀ j, T j ≤ 4) (hPt : ∀ j, P j ≤ 4) (hr : ∀ k, k < 64 → rt k = wm_e (wm_p wm_g k)) (hm : 1 ≤ m) (hm2 : m ≤ 12) (hn : 1 ≤ n) (hn2 : n ≤ 40)
    (hP : ∀ (w' : Nat → wm_F) (df' wr' : Nat → Int32), (∀ i, i < n → df' i = wm_e (w (128 + (i + m - 1)))) → (∀ i, i < n → wr' i = nI (wm_d T P n m i)) → post (nI n, nI m, rd, wm_t T, wm_t P, rt, wm_a w', df', wr')) :
    ∃ k, wX_prepare_69 post (nI n) (nI m) rd k 0 (wm_t T) (wm_t P) rt (wm_a w) df wr := by
  refine loop_0 (fun k i s => wX_prepare_69 post (nI n) (nI m) rd k (nI i) (wm_t T) (wm_t P) rt (wm_a w) s wr) (fun i s => ∀ j, j < i → s j = wm_e (w (128 + (j + m - 1)))) n df (fun j hj => by omega) ?_ ?_
  · intro k s hI
    refine pk_le n n (fun _ => ?_) (fun z => by omega)
    refine wm_clear (fun w1 h1 => ?_)
    refine wm_apI (f := 1) (wm_Ms_mu (h := 0) (by omega)) (wm_Ms_mu (h := 0) (by omega)) rfl hT hPt hr hm hm2 hn hn2 (wm_I_0 h1) (fun w2 h2 => ?_)
    exact ⟨5, wm_p119 hT hPt hr hm hm2 hn hn2 (fun w' wr' h => hP w' s wr' hI h) 4 0 w2 (by omega) h2⟩
  · intro k i s hi hI K
    have e : ((128 : Int32) + nI i) + nI m - 1 = nI (128 + (i + m - 1)) := by
      rw [show (128 : Int32) + nI i = nI (128 + i) from nI_add 128 i, nI_add, show nI (128 + i + m) - 1 = nI (128 + i + m - 1) from pk_sub (b := 1) (by omega), show 128 + i + m - 1 = 128 + (i + m - 1) from by omega]
    refine pk_le n i (fun z => by omega) (fun _ => ⟨pk_in (128 + (i + m - 1)) 192 (by omega) e, pk_in i 40 (by omega), nm_e (nm_r (nI_1 i) (K _ (fun j hj => ?_)))⟩)
    rw [nI_clamp (n := i) (by omega), wm_ac2 (128 + (i + m - 1)) e (by omega)]
    by_cases ej : j = i
    · subst ej
      exact pk_us
    · rw [pk_un ej]
      exact hI j (by omega)
def wm_ok (T P : Nat → Nat) (n m : Nat) (df wr : Nat → Int32) : Prop := ∀ i, i < n → (df i = 0 ↔ wm_d T P n m i = 0) ∧ wr i = nI (wm_d T P n m i)
theorem wm_prep {w : Nat → wm_F} (hT : ∀ j, T j ≤ 4) (hPt : ∀ j, P j ≤ 4) (hr : ∀ k, k < 64 → rt k = wm_e (wm_p wm_g k)) (hm : 1 ≤ m) (hm2 : m ≤ 12) (hmn : m ≤ n) (hn2 : n ≤ 40)
    (hP : ∀ (w' : Nat → wm_F) (df' wr' : Nat → Int32), wm_ok T P n m df' wr' → post (nI n, nI m, 1, wm_t T, wm_t P, rt, wm_a w', df', wr')) :
    wpX_prepare post (nI n, nI m, 0, wm_t T, wm_t P, rt, wm_a w, df, wr) := by
  have hn : 1 ≤ n := by omega
  unfold wpX_prepare
  dsimp only
  refine br_t rfl (br_f (nI_ne0 (by omega) (by omega)) (br_t (nI_le hmn (by omega)) ?_))
  refine wm_clear (fun w1 h1 => ?_)
  refine wm_apI (f := 1) (wm_Ms_mu (h := 3) (by omega)) (wm_Ms_mu (h := 1) (by omega)) rfl hT hPt hr hm hm2 hn hn2 (wm_I_0 h1) (fun w2 h2 => ?_)
  refine wm_apI (f := 7679) (wm_Ms_mu (h := 2) (by omega)) (wm_Ms_mu (h := 2) (by omega)) rfl hT hPt hr hm hm2 hn hn2 h2 (fun w3 h3 => ?_)
  refine wm_apI (f := 1) (wm_Ms_mu (h := 1) (by omega)) (wm_Ms_mu (h := 3) (by omega)) rfl hT hPt hr hm hm2 hn hn2 h3 (fun w4 h4 => ?_)
  refine wm_trI hr hm hm2 hn2 h4 (fun w5 h5 => ?_)
  refine wm_p69 hT hPt hr hm hm2 hn hn2 (fun w6 df' wr' a b => hP w6 df' wr' (fun i hi => ⟨?_, b i hi⟩))
  have hv : wm_s (fun j => wm_D (P j) (T ((i + j) % n))) m = Fin.ofNat 7681 (wm_n (fun j => wm_sq (P j) (T ((i + j) % n))) m) := by
    rw [← wm_s_nat]
    exact wm_s_congr m (fun j _ => wm_D_sq _ (Nat.lt_succ_of_le (hPt j)) _ (Nat.lt_succ_of_le (hT _)))
  have hb := wm_n_le (f := fun j => wm_sq (P j) (T ((i + j) % n))) (c := 36) m (fun j _ => (wm_sq_mm _ (Nat.lt_succ_of_le (hPt j)) _ (Nat.lt_succ_of_le (hT _))).1)
  have hd : df' i = nI (wm_n (fun j => wm_sq (P j) (T ((i + j) % n))) m) := by
    rw [a i hi, h5 i hi]
    exact (congrArg wm_e hv).trans (wm_e_nat (by omega))
  rw [hd]
  unfold wm_d
  rw [← wm_n_zero (f := fun j => wm_sq (P j) (T ((i + j) % n))) m (fun j _ => (wm_sq_mm _ (Nat.lt_succ_of_le (hPt j)) _ (Nat.lt_succ_of_le (hT _))).2)]
  exact nI_eq (b := 0) (by omega) (by omega)
end wmQ
end
section
/-! the answers: one value for both sides -/
def wm_C (T P : Nat → Nat) (n m : Nat) (rd : Int32) (df wr : Nat → Int32) : Prop := rd = 0 ∨ (rd = 1 ∧ (m = 0 ∨ n < m ∨ wm_ok T P n m df wr))
def wm_B (T P : Nat → Nat) (n m : Nat) : Prop := n ≤ 40 ∧ m ≤ 12 ∧ (∀ j, T j ≤ 4) ∧ (∀ j, P j ≤ 4)
def wm_R (rt : Nat → Int32) : Prop := ∀ k, k < 64 → rt k = wm_e (wm_p wm_g k)
theorem wm_sh {n m j : Nat} (hn : n ≤ 40) (hm : m ≤ 12) (hj : j < 2 ^ 31) : nI n - nI m < nI j ↔ n < j + m := by
  rw [Int32.lt_iff_toInt_lt, pk_sub_toInt (by omega) (by omega), nI_toInt hj]
  omega
section wmA
variable {T P : Nat → Nat} {n m : Nat} {rt : Nat → Int32}
theorem wm_Xprep {post : SX → Prop} {rd : Int32} {w : Nat → wm_F} {df wr : Nat → Int32} (hB : wm_B T P n m) (hr : wm_R rt) (hC : wm_C T P n m rd df wr)
    (hP : ∀ (w' : Nat → wm_F) (df' wr' : Nat → Int32), (m = 0 ∨ n < m ∨ wm_ok T P n m df' wr') → post (nI n, nI m, 1, wm_t T, wm_t P, rt, wm_a w', df', wr')) :
    wpX_prepare post (nI n, nI m, rd, wm_t T, wm_t P, rt, wm_a w, df, wr) := by
  obtain ⟨hn, hm, hT, hPt⟩ := hB
  rcases hC with rfl | ⟨rfl, h⟩
  · by_cases h0 : m = 0
    · unfold wpX_prepare
      dsimp only
      refine br_t rfl (br_t (by rw [h0]; rfl) (hP w df wr (Or.inl h0)))
    · by_cases h1 : n < m
      · unfold wpX_prepare
        dsimp only
        exact br_t rfl (br_f (nI_ne0 (by omega) (by omega)) (br_f (nI_ge h1 (by omega)) (hP w df wr (Or.inr (Or.inl h1)))))
      · exact wm_prep hT hPt hr (by omega) hm (by omega) hn (fun w' df' wr' h => hP w' df' wr' (Or.inr (Or.inr h)))
  · unfold wpX_prepare
    dsimp only
    exact br_f (by decide) (hP w df wr h)
theorem wm_Xwrong {post : Int32 → SX → Prop} {rd : Int32} {w : Nat → wm_F} {df wr : Nat → Int32} {i : Nat} (hB : wm_B T P n m) (hr : wm_R rt) (hC : wm_C T P n m rd df wr) (hi : m = 0 ∨ (m ≤ n ∧ i < n))
    (hP : ∀ (rd' : Int32) (w' : Nat → wm_F) (df' wr' : Nat → Int32), wm_C T P n m rd' df' wr' → post (nI (wm_d T P n m i)) (nI n, nI m, rd', wm_t T, wm_t P, rt, wm_a w', df', wr')) :
    wpX_wrongAt post (nI n, nI m, rd, wm_t T, wm_t P, rt, wm_a w, df, wr) (nI i) := by
  unfold wpX_wrongAt
  dsimp only
  refine wm_Xprep hB hr hC (fun w' df' wr' h => ?_)
  obtain ⟨hn, hm, hT, hPt⟩ := hB
  have K := hP 1 w' df' wr' (Or.inr ⟨rfl, h⟩)
  by_cases h0 : m = 0
  · subst h0
    exact br_t rfl K
  · have h1 : m ≤ n ∧ i < n := by omega
    have ho : wm_ok T P n m df' wr' := by
      rcases h with h | h | h
      · exact absurd h h0
      · omega
      · exact h
    refine br_f (nI_ne0 (by omega) (by omega)) ⟨vp_in_nI (by omega) (by decide), ?_⟩
    dsimp only
    rw [nI_clamp (by omega), (ho i h1.2).2]
    exact K
theorem wm_Xmatch {post : Int32 → SX → Prop} {rd : Int32} {w : Nat → wm_F} {df wr : Nat → Int32} {i : Nat} {b : Int32} (hB : wm_B T P n m) (hr : wm_R rt) (hC : wm_C T P n m rd df wr) (hi : i + m ≤ n)
    (hb : (wm_d T P n m i = 0 ∧ b = 1) ∨ (wm_d T P n m i ≠ 0 ∧ b = 0))
    (hP : ∀ (rd' : Int32) (w' : Nat → wm_F) (df' wr' : Nat → Int32), wm_C T P n m rd' df' wr' → post b (nI n, nI m, rd', wm_t T, wm_t P, rt, wm_a w', df', wr')) :
    wpX_matches post (nI n, nI m, rd, wm_t T, wm_t P, rt, wm_a w, df, wr) (nI i) := by
  obtain ⟨hn, hm, hT, hPt⟩ := hB
  unfold wpX_matches wpX_isShift
  dsimp only
  refine br_f (nI_pos (by omega)) (br_f (by rw [wm_sh hn hm (by omega)]; omega) (br_f (by decide) ?_))
  refine wm_Xprep ⟨hn, hm, hT, hPt⟩ hr hC (fun w' df' wr' h => ?_)
  have K := hP 1 w' df' wr' (Or.inr ⟨rfl, h⟩)
  by_cases h0 : m = 0
  · subst h0
    rcases hb with ⟨_, rfl⟩ | ⟨z, _⟩
    · exact br_t rfl K
    · exact absurd rfl z
  · have ho : wm_ok T P n m df' wr' := by
      rcases h with h | h | h
      · exact absurd h h0
      · omega
      · exact h
    have q := (ho i (by omega)).1
    refine br_f (nI_ne0 (by omega) (by omega)) ⟨vp_in_nI (by omega) (by decide), ?_⟩
    rw [nI_clamp (by omega)]
    rcases hb with ⟨z, rfl⟩ | ⟨z, rfl⟩
    · exact br_t (q.mpr z) K
    · exact br_f (fun y => z (q.mp y)) K
theorem wm_Ydif {post : Int32 → Prop} {i : Nat} (hB : wm_B T P n m) (hi : i ≤ 40) (h0 : m = 0 ∨ 1 ≤ n) (h : post (nI (wm_d T P n m i))) : wpY_differing post (nI n, nI m, wm_t T, wm_t P) (nI i) := by
  obtain ⟨hn, hm, hT, hPt⟩ := hB
  unfold wpY_differing
  dsimp only
  refine loop_0 (fun k j s => wY_differing_4 post (nI i) (nI n) (nI m) (wm_t T) (wm_t P) k s (nI j)) (fun j s => s = nI (wm_n (fun j => wm_mm (P j) (T ((i + j) % n))) j)) m 0 rfl ?_ ?_
  · intro k s hI
    refine pk_le m m (fun _ => ?_) (fun z => by omega)
    rw [hI]
    exact h
  · intro k j s hj hI K
    have hn1 : 1 ≤ n := by omega
    have hmod : (i + j) % n < n := Nat.mod_lt _ (by omega)
    have em : nI i + nI j - (nI i + nI j) / nI n * nI n = nI ((i + j) % n) := by rw [nI_add, pk_rem (by omega) (by omega) (by omega)]
    refine pk_le m j (fun z => by omega) (fun _ => br_t (nI_le (a := 1) hn1 (by omega)) ⟨nI_ne0 (by omega) (by omega), ?_⟩)
    have hT1 := hT ((i + j) % n)
    have hP1 := hPt j
    have same : wm_mm (P j) (T ((i + j) % n)) = 0 → s = nI (wm_n (fun j => wm_mm (P j) (T ((i + j) % n))) (j + 1)) := by
      intro z
      rw [hI]
      show _ = nI (wm_n _ j + wm_mm (P j) (T ((i + j) % n)))
      rw [z]
      rfl
    refine ⟨pk_in ((i + j) % n) 40 (by omega) em, nm_r (e' := nI (T ((i + j) % n))) (by rw [em, nI_clamp (by omega)]; rfl) ⟨pk_in j 12 (by omega), nm_r (e' := nI (P j)) (by rw [nI_clamp (by omega)]; rfl) ?_⟩⟩
    refine pk_eq (T ((i + j) % n)) (P j) (fun c => nm_r (nI_1 j) (K _ (same ?_))) (fun c1 => pk_eq (T ((i + j) % n)) 0 (fun c => nm_r (nI_1 j) (K _ (same ?_))) (fun c2 => pk_eq (P j) 0 (fun c => nm_r (nI_1 j) (K _ (same ?_))) (fun c3 => nm_e (nm_r (nI_1 j) (K _ ?_)))))
    · exact if_pos (Or.inl c.symm)
    · exact if_pos (Or.inr (Or.inr c))
    · exact if_pos (Or.inr (Or.inl c))
    · rw [hI, nI_1]
      refine congrArg nI ?_
      show wm_n _ j + 1 = wm_n _ j + wm_mm (P j) (T ((i + j) % n))
      unfold wm_mm
      rw [if_neg (by omega)]
theorem wm_Ymatch {post : Int32 → Prop} {i : Nat} {b : Int32} (hB : wm_B T P n m) (hi : i + m ≤ n)
    (hb : (wm_d T P n m i = 0 ∧ b = 1) ∨ (wm_d T P n m i ≠ 0 ∧ b = 0)) (h : post b) : wpY_matches post (nI n, nI m, wm_t T, wm_t P) (nI i) := by
  have hn := hB.1
  have hm := hB.2.1
  have hd := wm_d_le T P n m i
  unfold wpY_matches wpY_isShift
  dsimp only
  refine br_f (nI_pos (by omega)) (br_f (by rw [wm_sh hn hm (by omega)]; omega) (br_f (by decide) ?_))
  refine wm_Ydif hB (by omega) (by omega) ?_
  rcases hb with ⟨z, rfl⟩ | ⟨z, rfl⟩
  · exact br_t (by rw [z]; rfl) h
  · exact br_f (nI_ne0 (by omega) (by omega)) h
theorem wm_mcount (hB : wm_B T P n m) (hr : wm_R rt) : ∀ (d i : Nat) (c : Int32), i + d = n + 1 - m → ∃ r : Int32,
    (∀ post : Int32 → SX → Prop, (∀ (rd : Int32) (w : Nat → wm_F) (df wr : Nat → Int32), wm_C T P n m rd df wr → post r (nI n, nI m, rd, wm_t T, wm_t P, rt, wm_a w, df, wr)) → ∀ (rd : Int32) (w : Nat → wm_F) (df wr : Nat → Int32), wm_C T P n m rd df wr → wX_matchCount_4 post (d + 1) c (nI i) (nI n) (nI m) rd (wm_t T) (wm_t P) rt (wm_a w) df wr)
    ∧ (∀ post : Int32 → Prop, post r → wY_matchCount_4 post (nI n) (nI m) (wm_t T) (wm_t P) (d + 1) c (nI i)) := by
  have hn := hB.1
  have hm := hB.2.1
  intro d
  induction d with
  | zero =>
    intro i c hi
    have h : nI n - nI m < nI i := by rw [wm_sh hn hm (by omega)]; omega
    exact ⟨c, fun post hp rd w df wr hC => br_t h (hp rd w df wr hC), fun post hp => br_t h hp⟩
  | succ d ih =>
    intro i c hi
    have h : ¬ nI n - nI m < nI i := by rw [wm_sh hn hm (by omega)]; omega
    by_cases z : wm_d T P n m i = 0
    · obtain ⟨r, hX, hY⟩ := ih (i + 1) (c + 1) (by omega)
      refine ⟨r, fun post hp rd w df wr hC => br_f h (wm_Xmatch (b := 1) hB hr hC (by omega) (Or.inl ⟨z, rfl⟩) (fun rd' w' df' wr' hC' => br_f (by decide) (nm_e (nm_r (nI_1 i) (hX post hp rd' w' df' wr' hC'))))), fun post hp => br_f h (wm_Ymatch (b := 1) hB (by omega) (Or.inl ⟨z, rfl⟩) (br_f (by decide) (nm_e (nm_r (nI_1 i) (hY post hp)))))⟩
    · obtain ⟨r, hX, hY⟩ := ih (i + 1) c (by omega)
      refine ⟨r, fun post hp rd w df wr hC => br_f h (wm_Xmatch (b := 0) hB hr hC (by omega) (Or.inr ⟨z, rfl⟩) (fun rd' w' df' wr' hC' => br_t rfl (nm_r (nI_1 i) (hX post hp rd' w' df' wr' hC')))), fun post hp => br_f h (wm_Ymatch (b := 0) hB (by omega) (Or.inr ⟨z, rfl⟩) (br_t rfl (nm_r (nI_1 i) (hY post hp))))⟩
theorem wm_next (hB : wm_B T P n m) (hr : wm_R rt) (x : Int32) : ∀ (d i : Nat), i + d = n + 1 - m → ∃ r : Int32,
    (∀ post : Int32 → SX → Prop, (∀ (rd : Int32) (w : Nat → wm_F) (df wr : Nat → Int32), wm_C T P n m rd df wr → post r (nI n, nI m, rd, wm_t T, wm_t P, rt, wm_a w, df, wr)) → ∀ (rd : Int32) (w : Nat → wm_F) (df wr : Nat → Int32), wm_C T P n m rd df wr → wX_nextMatch_2 post x (d + 1) (nI i) (nI n) (nI m) rd (wm_t T) (wm_t P) rt (wm_a w) df wr)
    ∧ (∀ post : Int32 → Prop, post r → wY_nextMatch_2 post x (nI n) (nI m) (wm_t T) (wm_t P) (d + 1) (nI i)) := by
  have hn := hB.1
  have hm := hB.2.1
  intro d
  induction d with
  | zero =>
    intro i hi
    have h : nI n - nI m < nI i := by rw [wm_sh hn hm (by omega)]; omega
    exact ⟨-3, fun post hp rd w df wr hC => br_t h (hp rd w df wr hC), fun post hp => br_t h hp⟩
  | succ d ih =>
    intro i hi
    have h : ¬ nI n - nI m < nI i := by rw [wm_sh hn hm (by omega)]; omega
    obtain ⟨r, hX, hY⟩ := ih (i + 1) (by omega)
    by_cases hx : nI i < x
    · exact ⟨r, fun post hp rd w df wr hC => br_f h (br_t hx (nm_r (nI_1 i) (hX post hp rd w df wr hC))), fun post hp => br_f h (br_t hx (nm_r (nI_1 i) (hY post hp)))⟩
    · by_cases z : wm_d T P n m i = 0
      · refine ⟨nI i, fun post hp rd w df wr hC => br_f h (br_f hx (wm_Xmatch (b := 1) hB hr hC (by omega) (Or.inl ⟨z, rfl⟩) (fun rd' w' df' wr' hC' => br_f (by decide) (hp rd' w' df' wr' hC')))), fun post hp => br_f h (br_f hx (wm_Ymatch (b := 1) hB (by omega) (Or.inl ⟨z, rfl⟩) (br_f (by decide) hp)))⟩
      · refine ⟨r, fun post hp rd w df wr hC => br_f h (br_f hx (wm_Xmatch (b := 0) hB hr hC (by omega) (Or.inr ⟨z, rfl⟩) (fun rd' w' df' wr' hC' => br_t rfl (nm_r (nI_1 i) (hX post hp rd' w' df' wr' hC'))))), fun post hp => br_f h (br_f hx (wm_Ymatch (b := 0) hB (by omega) (Or.inr ⟨z, rfl⟩) (br_t rfl (nm_r (nI_1 i) (hY post hp)))))⟩
theorem wm_best (hB : wm_B T P n m) (hr : wm_R rt) : ∀ (d i : Nat) (c : Int32) (fx fy : Nat), i + d = n + 1 - m → fx ≤ 13 → (fx = fy ∨ (fx = 13 ∧ fy = 100)) → ∃ r : Int32,
    (∀ post : Int32 → SX → Prop, (∀ (rd : Int32) (w : Nat → wm_F) (df wr : Nat → Int32), wm_C T P n m rd df wr → post r (nI n, nI m, rd, wm_t T, wm_t P, rt, wm_a w, df, wr)) → ∀ (rd : Int32) (w : Nat → wm_F) (df wr : Nat → Int32), wm_C T P n m rd df wr → wX_bestShift_8 post (d + 1) c (nI fx) (nI i) (nI n) (nI m) rd (wm_t T) (wm_t P) rt (wm_a w) df wr)
    ∧ (∀ post : Int32 → Prop, post r → wY_bestShift_8 post (nI n) (nI m) (wm_t T) (wm_t P) (d + 1) c (nI fy) (nI i)) := by
  have hn := hB.1
  have hm := hB.2.1
  intro d
  induction d with
  | zero =>
    intro i c fx fy hi _ _
    have h : nI n - nI m < nI i := by rw [wm_sh hn hm (by omega)]; omega
    exact ⟨c, fun post hp rd w df wr hC => br_t h (hp rd w df wr hC), fun post hp => br_t h hp⟩
  | succ d ih =>
    intro i c fx fy hi hf hxy
    have h : ¬ nI n - nI m < nI i := by rw [wm_sh hn hm (by omega)]; omega
    have hd := wm_d_le T P n m i
    by_cases z : wm_d T P n m i < fx
    · obtain ⟨r, hX, hY⟩ := ih (i + 1) (nI i) (wm_d T P n m i) (wm_d T P n m i) (by omega) (by omega) (Or.inl rfl)
      refine ⟨r, fun post hp rd w df wr hC => br_f h (wm_Xwrong hB hr hC (by omega) (fun rd' w' df' wr' hC' => br_t (nI_lt z (by omega)) (nm_r (nI_1 i) (hX post hp rd' w' df' wr' hC')))), fun post hp => br_f h (wm_Ydif hB (by omega) (by omega) (br_f (nI_ge (by omega) (by omega)) (nm_r (nI_1 i) (hY post hp))))⟩
    · obtain ⟨r, hX, hY⟩ := ih (i + 1) c fx fy (by omega) hf hxy
      refine ⟨r, fun post hp rd w df wr hC => br_f h (wm_Xwrong hB hr hC (by omega) (fun rd' w' df' wr' hC' => br_f (nI_nlt (by omega) (by omega)) (nm_r (nI_1 i) (hX post hp rd' w' df' wr' hC')))), fun post hp => br_f h (wm_Ydif hB (by omega) (by omega) (br_t (nI_le (by omega) (by omega)) (nm_r (nI_1 i) (hY post hp))))⟩
theorem wm_with (hB : wm_B T P n m) (hr : wm_R rt) (x : Int32) : ∀ (d i : Nat) (c : Int32), i + d = n + 1 - m → ∃ r : Int32,
    (∀ post : Int32 → SX → Prop, (∀ (rd : Int32) (w : Nat → wm_F) (df wr : Nat → Int32), wm_C T P n m rd df wr → post r (nI n, nI m, rd, wm_t T, wm_t P, rt, wm_a w, df, wr)) → ∀ (rd : Int32) (w : Nat → wm_F) (df wr : Nat → Int32), wm_C T P n m rd df wr → wX_within_4 post x (d + 1) c (nI i) (nI n) (nI m) rd (wm_t T) (wm_t P) rt (wm_a w) df wr)
    ∧ (∀ post : Int32 → Prop, post r → wY_within_4 post x (nI n) (nI m) (wm_t T) (wm_t P) (d + 1) c (nI i)) := by
  have hn := hB.1
  have hm := hB.2.1
  intro d
  induction d with
  | zero =>
    intro i c hi
    have h : nI n - nI m < nI i := by rw [wm_sh hn hm (by omega)]; omega
    exact ⟨c, fun post hp rd w df wr hC => br_t h (hp rd w df wr hC), fun post hp => br_t h hp⟩
  | succ d ih =>
    intro i c hi
    have h : ¬ nI n - nI m < nI i := by rw [wm_sh hn hm (by omega)]; omega
    by_cases z : x < nI (wm_d T P n m i)
    · obtain ⟨r, hX, hY⟩ := ih (i + 1) c (by omega)
      refine ⟨r, fun post hp rd w df wr hC => br_f h (wm_Xwrong hB hr hC (by omega) (fun rd' w' df' wr' hC' => br_t z (nm_r (nI_1 i) (hX post hp rd' w' df' wr' hC')))), fun post hp => br_f h (wm_Ydif hB (by omega) (by omega) (br_t z (nm_r (nI_1 i) (hY post hp))))⟩
    · obtain ⟨r, hX, hY⟩ := ih (i + 1) (c + 1) (by omega)
      refine ⟨r, fun post hp rd w df wr hC => br_f h (wm_Xwrong hB hr hC (by omega) (fun rd' w' df' wr' hC' => br_f z (nm_e (nm_r (nI_1 i) (hX post hp rd' w' df' wr' hC'))))), fun post hp => br_f h (wm_Ydif hB (by omega) (by omega) (br_f z (nm_e (nm_r (nI_1 i) (hY post hp)))))⟩
end wmA
end
section
/-! editing, and the two constructors -/
theorem wm_ix (x : Int32) {n : Nat} (hn : n < 2 ^ 31) : x < 0 ∨ (¬ x < 0 ∧ nI n ≤ x) ∨ ∃ j : Nat, j < n ∧ x = nI j := by
  by_cases h : x < 0
  · exact Or.inl h
  · obtain ⟨j, hj, rfl⟩ := nI_of h
    by_cases h2 : j < n
    · exact Or.inr (Or.inr ⟨j, h2, rfl⟩)
    · exact Or.inr (Or.inl ⟨h, nI_le (by omega) hj⟩)
theorem wm_let (x : Int32) : x < 0 ∨ (¬ x < 0 ∧ ¬ x ≤ 4) ∨ ∃ c : Nat, c ≤ 4 ∧ x = nI c := by
  by_cases h : x < 0
  · exact Or.inl h
  · by_cases h4 : x ≤ 4
    · obtain ⟨c, hc, e⟩ := nI_of2 (M := 4) (n := 4) (by decide) h h4
      exact Or.inr (Or.inr ⟨c, hc, e⟩)
    · exact Or.inr (Or.inl ⟨h, h4⟩)
theorem wm_nar1 : ∀ c, c < 5 → (nI c).toInt8.toInt32 = nI c := by decide +kernel
theorem wm_nar {c : Nat} (hc : c ≤ 4) : vp_nar .byte (nI c) = nI c := by
  rw [vp_nar_byte, wm_nar1 c (by omega)]
theorem wm_nar2 {c : Nat} (hc : c ≤ 4) : vp_nar .byte (nI c).toInt8.toInt32 = nI c := by
  rw [wm_nar1 c (by omega), wm_nar hc]
def wm_tu (T : Nat → Nat) (k c : Nat) : Nat → Nat := fun j => if j = k then c else T j
theorem wm_tuX {T : Nat → Nat} {x y : Int32} (k c : Nat) (hx : x = nI k) (hk : k < 2 ^ 31) (hy : y = nI c) : upd (wm_t T) x.toNatClampNeg y = wm_t (wm_tu T k c) := by
  rw [hx, nI_clamp hk, hy]
  funext j
  show (if j = k then nI c else nI (T j)) = nI (if j = k then c else T j)
  split <;> rfl
theorem wm_tuB {T : Nat → Nat} {k c : Nat} (hT : ∀ j, T j ≤ 4) (hc : c ≤ 4) : ∀ j, wm_tu T k c j ≤ 4 := by
  intro j
  unfold wm_tu
  split
  · exact hc
  · exact hT j
def wm_sf (T : Nat → Nat) (i : Nat) : Nat → Nat := fun j => if j < i then T (j + 1) else T j
theorem wm_sfB {T : Nat → Nat} {i : Nat} (hT : ∀ j, T j ≤ 4) : ∀ j, wm_sf T i j ≤ 4 := by
  intro j
  unfold wm_sf
  split
  · exact hT _
  · exact hT j
theorem wm_sf0 (T : Nat → Nat) : wm_sf T 0 = T := by
  funext j
  exact if_neg (by omega)
theorem wm_sfS {T : Nat → Nat} {x y : Int32} (i : Nat) (hx : x = nI i) (hi : i < 2 ^ 31) (hy : y = nI (T (i + 1))) : upd (wm_t (wm_sf T i)) x.toNatClampNeg y = wm_t (wm_sf T (i + 1)) := by
  rw [wm_tuX i _ hx hi hy]
  refine congrArg wm_t ?_
  funext j
  show (if j = i then T (i + 1) else if j < i then T (j + 1) else T j) = if j < i + 1 then T (j + 1) else T j
  by_cases e : j = i
  · subst e
    rw [if_pos rfl, if_pos (by omega)]
  · rw [if_neg e]
    by_cases c : j < i
    · rw [if_pos c, if_pos (by omega)]
    · rw [if_neg c, if_neg (by omega)]
theorem wm_sfG {T : Nat → Nat} {x : Int32} (i : Nat) (hx : x = nI (i + 1)) (hi : i + 1 < 2 ^ 31) : wm_t (wm_sf T i) x.toNatClampNeg = nI (T (i + 1)) := by
  rw [hx, nI_clamp hi]
  exact congrArg nI (if_neg (by omega))
section wmE
variable {tl pl rd : Int32} {tx pt rt wk df wr : Nat → Int32} {T : Nat → Nat}
theorem wm_Xs0 {post : Int32 → SX → Prop} {e : Nat} (he : e + 1 ≤ 40) (hT : ∀ j, T j ≤ 4) (h : post (nI e) (nI e, pl, rd, wm_t (wm_sf T e), pt, rt, wk, df, wr)) :
    ∃ k, wX_shorten_22 post 0 (nI e) tl pl rd k 0 (wm_t T) pt rt wk df wr := by
  refine loop_0 (fun k i s => wX_shorten_22 post 0 (nI e) tl pl rd k (nI i) s pt rt wk df wr) (fun i s => s = wm_t (wm_sf T i)) e (wm_t T) (by rw [wm_sf0]) ?_ ?_
  · intro k s hI
    refine pk_le e e (fun _ => br_t rfl ?_) (fun z => by omega)
    rw [hI]
    exact h
  · intro k i s hi hI K
    refine pk_le e i (fun z => by omega) (fun _ => br_t rfl ⟨pk_in (i + 1) 40 (by omega) (nI_1 i), pk_in i 40 (by omega), nm_e (nm_r (nI_1 i) (K _ ?_))⟩)
    rw [hI]
    exact wm_sfS i rfl (by omega) (by rw [wm_sfG i (nI_1 i) (by omega), wm_nar (hT _)])
theorem wm_Xs1 {post : Int32 → SX → Prop} {e : Nat} (he : e + 1 ≤ 12) (hT : ∀ j, T j ≤ 4) (h : post (nI e) (tl, nI e, rd, tx, wm_t (wm_sf T e), rt, wk, df, wr)) :
    ∃ k, wX_shorten_22 post 1 (nI e) tl pl rd k 0 tx (wm_t T) rt wk df wr := by
  refine loop_0 (fun k i s => wX_shorten_22 post 1 (nI e) tl pl rd k (nI i) tx s rt wk df wr) (fun i s => s = wm_t (wm_sf T i)) e (wm_t T) (by rw [wm_sf0]) ?_ ?_
  · intro k s hI
    refine pk_le e e (fun _ => br_f (by decide) ?_) (fun z => by omega)
    rw [hI]
    exact h
  · intro k i s hi hI K
    refine pk_le e i (fun z => by omega) (fun _ => br_f (by decide) ⟨pk_in (i + 1) 12 (by omega) (nI_1 i), pk_in i 12 (by omega), nm_e (nm_r (nI_1 i) (K _ ?_))⟩)
    rw [hI]
    exact wm_sfS i rfl (by omega) (by rw [wm_sfG i (nI_1 i) (by omega), wm_nar (hT _)])
theorem wm_Ys0 {post : Int32 → SY → Prop} {e : Nat} {fm : Int32} {ap : Nat → Int32} (he : e + 1 ≤ 40) (h : post (nI e) (nI e, fm, wm_t (wm_sf T e), ap)) :
    ∃ k, wY_shorten_63 post (nI (e + 1)) fm k 1 (wm_t T) ap := by
  refine loop_0 (fun k i s => wY_shorten_63 post (nI (e + 1)) fm k (nI (i + 1)) s ap) (fun i s => s = wm_t (wm_sf T i)) e (wm_t T) (by rw [wm_sf0]) ?_ ?_
  · intro k s hI
    refine pk_le (e + 1) (e + 1) (fun _ => nm_r (nI_pred e) ?_) (fun z => by omega)
    rw [hI]
    exact h
  · intro k i s hi hI K
    refine pk_le (e + 1) (i + 1) (fun z => by omega) (fun _ => ⟨pk_in (i + 1) 40 (by omega), pk_in i 40 (by omega) (nI_pred i), nm_e (nm_r (nI_1 (i + 1)) (K _ ?_))⟩)
    rw [hI]
    exact wm_sfS i (nI_pred i) (by omega) (wm_sfG i rfl (by omega))
theorem wm_Ys1 {post : Int32 → SY → Prop} {e : Nat} {fn : Int32} {at' : Nat → Int32} (he : e + 1 ≤ 12) (h : post (nI e) (fn, nI e, at', wm_t (wm_sf T e))) :
    ∃ k, wY_shorten_18 post fn (nI (e + 1)) k 1 at' (wm_t T) := by
  refine loop_0 (fun k i s => wY_shorten_18 post fn (nI (e + 1)) k (nI (i + 1)) at' s) (fun i s => s = wm_t (wm_sf T i)) e (wm_t T) (by rw [wm_sf0]) ?_ ?_
  · intro k s hI
    refine pk_le (e + 1) (e + 1) (fun _ => nm_r (nI_pred e) ?_) (fun z => by omega)
    rw [hI]
    exact h
  · intro k i s hi hI K
    refine pk_le (e + 1) (i + 1) (fun z => by omega) (fun _ => ⟨pk_in (i + 1) 12 (by omega), pk_in i 12 (by omega) (nI_pred i), nm_e (nm_r (nI_1 (i + 1)) (K _ ?_))⟩)
    rw [hI]
    exact wm_sfS i (nI_pred i) (by omega) (wm_sfG i rfl (by omega))
end wmE
theorem wm_17 : wm_p 17 120 = wm_g := by decide +kernel
theorem wm_init {post : SX → Prop} (h : ∀ rt, wm_R rt → post (0, 0, 0, (fun _ => 0), (fun _ => 0), rt, (fun _ => 0), (fun _ => 0), (fun _ => 0))) : wpX_init post := by
  unfold wpX_init
  refine loop_0 (fun k i s => wX_init_57 post 0 0 0 (fun _ => 0) (fun _ => 0) (fun _ => 0) (fun _ => 0) (fun _ => 0) (fun _ => 0) k s (nI i)) (fun i s => s = wm_e (wm_p 17 i)) 120 1 rfl ?_ ?_
  · intro k s hI
    rw [wm_17] at hI
    refine pk_le 120 120 (fun _ => nm_e ⟨64, ?_⟩) (fun z => by omega)
    rw [hI]
    refine loop_i (fun k i s => wX_init_87 post (wm_e wm_g) 0 0 0 k (nI i) (fun _ => 0) (fun _ => 0) s (fun _ => 0) (fun _ => 0) (fun _ => 0)) (fun i s => 1 ≤ i ∧ ∀ j, j < i → s j = wm_e (wm_p wm_g j)) 64 ?_ ?_ 64 1 _ (by omega) (by omega) ⟨by omega, fun j hj => ?_⟩
    · intro n s hI
      exact pk_le 64 64 (fun _ => h s hI.2) (fun z => by omega)
    · intro n i s hi hI K
      obtain ⟨h1, hI⟩ := hI
      have e1 : nI i - 1 = nI (i - 1) := pk_sub (b := 1) h1
      have ev : s (nI i - 1).toNatClampNeg * wm_e wm_g - s (nI i - 1).toNatClampNeg * wm_e wm_g / 7681 * 7681 = wm_e (wm_p wm_g i) := by
        rw [e1, nI_clamp (by omega), hI (i - 1) (by omega), wm_eM]
        obtain ⟨j, rfl⟩ : ∃ j, i = j + 1 := ⟨i - 1, by omega⟩
        rfl
      refine pk_le 64 i (fun z => by omega) (fun _ => ⟨pk_in (i - 1) 64 (by omega) e1, by decide, pk_in i 64 (by omega), nm_e (nm_r (nI_1 i) (K _ ⟨by omega, fun j hj => ?_⟩))⟩)
      rw [ev, nI_clamp (n := i) (by omega)]
      by_cases ej : j = i
      · subst ej
        exact pk_us
      · rw [pk_un ej]
        exact hI j (by omega)
    · have ej : j = 0 := by omega
      subst ej
      rfl
  · intro k i s hi hI K
    refine pk_le 120 i (fun z => by omega) (fun _ => ⟨by decide, nm_e (nm_r (nI_1 i) (K _ ?_))⟩)
    rw [hI]
    exact wm_eM _ 17
end
section
/-- the relation: both hold the letters T, P of n and m places; the roots stand; if X is ready, its two rows of sums are right -/
def i_Rel (_ : Nat) (u : SX) (v : SY) : Prop :=
  ∃ (T P : Nat → Nat) (n m : Nat) (rd : Int32) (rt : Nat → Int32) (w : Nat → wm_F) (df wr : Nat → Int32),
    wm_B T P n m ∧ wm_R rt ∧ wm_C T P n m rd df wr ∧ u = (nI n, nI m, rd, wm_t T, wm_t P, rt, wm_a w, df, wr) ∧ v = (nI n, nI m, wm_t T, wm_t P)
theorem wm_mk {k : Nat} {T P : Nat → Nat} {n m : Nat} {rd : Int32} {rt : Nat → Int32} {w : Nat → wm_F} {df wr : Nat → Int32} (hB : wm_B T P n m) (hr : wm_R rt) (hC : wm_C T P n m rd df wr) :
    i_Rel k (nI n, nI m, rd, wm_t T, wm_t P, rt, wm_a w, df, wr) (nI n, nI m, wm_t T, wm_t P) := ⟨T, P, n, m, rd, rt, w, df, wr, hB, hr, hC, rfl, rfl⟩
theorem i_up {k : Nat} {u : SX} {v : SY} (h : i_Rel k u v) : i_Rel (k + 4) u v := h
theorem i_vc0 : wpX_init (fun u => wpY_init (fun v => i_Rel 0 u v)) := by
  refine wm_init (fun rt hr => ?_)
  unfold wpY_init
  exact ⟨fun _ => 0, fun _ => 0, 0, 0, 0, rt, fun _ => 0, fun _ => 0, fun _ => 0, ⟨by omega, by omega, fun _ => Nat.zero_le 4, fun _ => Nat.zero_le 4⟩, hr, Or.inl rfl, rfl, rfl⟩
theorem i_vc_type {k : Nat} {u : SX} {v : SY} (I : i_Rel k u v) (hk : k + 4 ≤ 2048) (v1 : Int32) (v2 : Int32) : wpX_type (fun r u' => wpY_type (fun r' v' => r' = r ∧ i_Rel (k + 4) u' v') v (lw_bz v1) v2) u (lw_bz v1) v2 := by
  obtain ⟨T, P, n, m, rd, rt, w, df, wr, hB, hr, hC, rfl, rfl⟩ := I
  obtain ⟨hn, hm, hT, hP⟩ := id hB
  rcases lw_bz_01 v1 with e | e
  · rw [e]
    unfold wpX_type wpY_type
    dsimp only
    by_cases h40 : n = 40
    · exact br_t rfl (br_f (nI_nlt (b := 40) (by omega) (by omega)) (br_t rfl (br_t (by rw [h40]; rfl) ⟨rfl, wm_mk hB hr hC⟩)))
    · have hx : nI n < 40 := nI_lt (b := 40) (by omega) (by decide)
      have hy : ¬ nI n = 40 := fun z => h40 ((nI_eq (b := 40) (by omega) (by decide)).mp z)
      refine br_t rfl (br_t hx ?_)
      rcases wm_let v2 with h | ⟨h, h'⟩ | ⟨c, hc, rfl⟩
      · exact br_t h (br_t rfl (br_f hy (br_t h ⟨rfl, wm_mk hB hr hC⟩)))
      · exact br_f h (br_f h' (br_t rfl (br_f hy (br_f h (br_f h' ⟨rfl, wm_mk hB hr hC⟩)))))
      · have c0 : ¬ nI c < 0 := nI_pos (by omega)
        have c4 : nI c ≤ 4 := nI_le (b := 4) hc (by decide)
        refine br_f c0 (br_t c4 (br_t rfl ⟨pk_in n 40 (by omega), nm_r (wm_tuX n c rfl (by omega) (wm_nar2 hc)) (nm_r (nI_1 n) ?_)⟩))
        exact br_t rfl (br_f hy (br_f c0 (br_t c4 (br_t rfl ⟨pk_in n 40 (by omega), nm_r (wm_tuX n c rfl (by omega) rfl) (nm_r (nI_1 n) ⟨rfl, wm_mk ⟨by omega, hm, wm_tuB hT hc, hP⟩ hr (Or.inl rfl)⟩)⟩))))
  · rw [e]
    unfold wpX_type wpY_type
    dsimp only
    by_cases h12 : m = 12
    · exact br_f (by decide) (br_f (nI_nlt (b := 12) (by omega) (by omega)) (br_f (by decide) (br_t (by rw [h12]; rfl) ⟨rfl, wm_mk hB hr hC⟩)))
    · have hx : nI m < 12 := nI_lt (b := 12) (by omega) (by decide)
      have hy : ¬ nI m = 12 := fun z => h12 ((nI_eq (b := 12) (by omega) (by decide)).mp z)
      refine br_f (by decide) (br_t hx ?_)
      rcases wm_let v2 with h | ⟨h, h'⟩ | ⟨c, hc, rfl⟩
      · exact br_t h (br_f (by decide) (br_f hy (br_t h ⟨rfl, wm_mk hB hr hC⟩)))
      · exact br_f h (br_f h' (br_f (by decide) (br_f hy (br_f h (br_f h' ⟨rfl, wm_mk hB hr hC⟩)))))
      · have c0 : ¬ nI c < 0 := nI_pos (by omega)
        have c4 : nI c ≤ 4 := nI_le (b := 4) hc (by decide)
        refine br_f c0 (br_t c4 (br_f (by decide) ⟨pk_in m 12 (by omega), nm_r (wm_tuX m c rfl (by omega) (wm_nar2 hc)) (nm_r (nI_1 m) ?_)⟩))
        exact br_f (by decide) (br_f hy (br_f c0 (br_t c4 (br_f (by decide) ⟨pk_in m 12 (by omega), nm_r (wm_tuX m c rfl (by omega) rfl) (nm_r (nI_1 m) ⟨rfl, wm_mk ⟨hn, by omega, hT, wm_tuB hP hc⟩ hr (Or.inl rfl)⟩)⟩))))
theorem i_vc_replace {k : Nat} {u : SX} {v : SY} (I : i_Rel k u v) (hk : k + 4 ≤ 2048) (v1 : Int32) (v2 : Int32) (v3 : Int32) : wpX_replace (fun r u' => wpY_replace (fun r' v' => r' = r ∧ i_Rel (k + 4) u' v') v (lw_bz v1) v2 v3) u (lw_bz v1) v2 v3 := by
  obtain ⟨T, P, n, m, rd, rt, w, df, wr, hB, hr, hC, rfl, rfl⟩ := I
  obtain ⟨hn, hm, hT, hP⟩ := id hB
  rcases lw_bz_01 v1 with e | e
  · rw [e]
    unfold wpX_replace wpX_length wpY_replace wpY_isLetter wY_isLetter_20
    dsimp only
    rcases wm_ix v2 (n := n) (by omega) with h | ⟨h, h'⟩ | ⟨j, hj, rfl⟩
    · exact br_t h (br_t h (br_t rfl ⟨rfl, wm_mk hB hr hC⟩))
    · exact br_f h (br_t rfl (br_t h' (br_f h (br_t rfl (br_t h' (br_t rfl ⟨rfl, wm_mk hB hr hC⟩))))))
    · have j0 : ¬ nI j < 0 := nI_pos (by omega)
      have j1 : ¬ nI n ≤ nI j := nI_ge hj (by omega)
      refine br_f j0 (br_t rfl (br_f j1 ?_))
      rcases wm_let v3 with h | ⟨h, h'⟩ | ⟨c, hc, rfl⟩
      · exact br_t h (br_f j0 (br_t rfl (br_f j1 (br_f (by decide) (br_t h ⟨rfl, wm_mk hB hr hC⟩)))))
      · exact br_f h (br_f h' (br_f j0 (br_t rfl (br_f j1 (br_f (by decide) (br_f h (br_f h' ⟨rfl, wm_mk hB hr hC⟩)))))))
      · have c0 : ¬ nI c < 0 := nI_pos (by omega)
        have c4 : nI c ≤ 4 := nI_le (b := 4) hc (by decide)
        refine br_f c0 (br_t c4 (br_t rfl ⟨pk_in j 40 (by omega), nm_r (wm_tuX j c rfl (by omega) (wm_nar2 hc)) ?_⟩))
        exact br_f j0 (br_t rfl (br_f j1 (br_f (by decide) (br_f c0 (br_t c4 (br_t rfl ⟨pk_in j 40 (by omega), nm_r (wm_tuX j c rfl (by omega) rfl) ⟨rfl, wm_mk ⟨hn, hm, wm_tuB hT hc, hP⟩ hr (Or.inl rfl)⟩⟩))))))
  · rw [e]
    unfold wpX_replace wpX_length wpY_replace wpY_isLetter wY_isLetter_20
    dsimp only
    rcases wm_ix v2 (n := m) (by omega) with h | ⟨h, h'⟩ | ⟨j, hj, rfl⟩
    · exact br_t h (br_t h (br_t rfl ⟨rfl, wm_mk hB hr hC⟩))
    · exact br_f h (br_f (by decide) (br_t h' (br_f h (br_f (by decide) (br_t h' (br_t rfl ⟨rfl, wm_mk hB hr hC⟩))))))
    · have j0 : ¬ nI j < 0 := nI_pos (by omega)
      have j1 : ¬ nI m ≤ nI j := nI_ge hj (by omega)
      refine br_f j0 (br_f (by decide) (br_f j1 ?_))
      rcases wm_let v3 with h | ⟨h, h'⟩ | ⟨c, hc, rfl⟩
      · exact br_t h (br_f j0 (br_f (by decide) (br_f j1 (br_f (by decide) (br_t h ⟨rfl, wm_mk hB hr hC⟩)))))
      · exact br_f h (br_f h' (br_f j0 (br_f (by decide) (br_f j1 (br_f (by decide) (br_f h (br_f h' ⟨rfl, wm_mk hB hr hC⟩)))))))
      · have c0 : ¬ nI c < 0 := nI_pos (by omega)
        have c4 : nI c ≤ 4 := nI_le (b := 4) hc (by decide)
        refine br_f c0 (br_t c4 (br_f (by decide) ⟨pk_in j 12 (by omega), nm_r (wm_tuX j c rfl (by omega) (wm_nar2 hc)) ?_⟩))
        exact br_f j0 (br_f (by decide) (br_f j1 (br_f (by decide) (br_f c0 (br_t c4 (br_f (by decide) ⟨pk_in j 12 (by omega), nm_r (wm_tuX j c rfl (by omega) rfl) ⟨rfl, wm_mk ⟨hn, hm, hT, wm_tuB hP hc⟩ hr (Or.inl rfl)⟩⟩))))))
theorem i_vc_shorten {k : Nat} {u : SX} {v : SY} (I : i_Rel k u v) (hk : k + 4 ≤ 2048) (v1 : Int32) : wpX_shorten (fun r u' => wpY_shorten (fun r' v' => r' = r ∧ i_Rel (k + 4) u' v') v (lw_bz v1)) u (lw_bz v1) := by
  obtain ⟨T, P, n, m, rd, rt, w, df, wr, hB, hr, hC, rfl, rfl⟩ := I
  obtain ⟨hn, hm, hT, hP⟩ := id hB
  rcases lw_bz_01 v1 with e | e
  · rw [e]
    unfold wpX_shorten wpX_length wpY_shorten wpY_isLetter wY_isLetter_20
    dsimp only
    cases n with
    | zero => exact br_t rfl (nm_e (br_f (by decide) (br_f (by decide) (br_t rfl (br_t (by decide) (br_t rfl ⟨rfl, wm_mk hB hr hC⟩))))))
    | succ n =>
      refine br_t rfl (nm_r (nI_pred n) (br_t (nI_pos' (by omega)) (wm_Xs0 hn hT ?_)))
      exact br_f (by decide) (br_t rfl (br_f (nI_nle (by omega) (by omega)) (br_f (by decide) (br_t rfl (wm_Ys0 hn ⟨rfl, wm_mk ⟨by omega, hm, wm_sfB hT, hP⟩ hr (Or.inl rfl)⟩)))))
  · rw [e]
    unfold wpX_shorten wpX_length wpY_shorten wpY_isLetter wY_isLetter_20
    dsimp only
    cases m with
    | zero => exact br_f (by decide) (nm_e (br_f (by decide) (br_f (by decide) (br_f (by decide) (br_t (by decide) (br_t rfl ⟨rfl, wm_mk hB hr hC⟩))))))
    | succ m =>
      refine br_f (by decide) (nm_r (nI_pred m) (br_t (nI_pos' (by omega)) (wm_Xs1 hm hP ?_)))
      exact br_f (by decide) (br_f (by decide) (br_f (nI_nle (by omega) (by omega)) (br_f (by decide) (br_f (by decide) (wm_Ys1 hm ⟨rfl, wm_mk ⟨hn, by omega, hT, wm_sfB hP⟩ hr (Or.inl rfl)⟩)))))
theorem i_vc_letter {k : Nat} {u : SX} {v : SY} (I : i_Rel k u v) (hk : k + 4 ≤ 2048) (v1 : Int32) (v2 : Int32) : wpX_letter (fun r => wpY_letter (fun r' => r' = r ∧ i_Rel (k + 4) u v) v (lw_bz v1) v2) u (lw_bz v1) v2 := by
  have J : i_Rel (k + 4) u v := I
  obtain ⟨T, P, n, m, rd, rt, w, df, wr, hB, hr, hC, rfl, rfl⟩ := I
  obtain ⟨hn, hm, hT, hP⟩ := id hB
  generalize hu : i_Rel (k + 4) (nI n, nI m, rd, wm_t T, wm_t P, rt, wm_a w, df, wr) (nI n, nI m, wm_t T, wm_t P) = Q at J ⊢
  rcases lw_bz_01 v1 with e | e
  · rw [e]
    unfold wpX_letter wpX_length wpY_letter wpY_isLetter wY_isLetter_20
    dsimp only
    rcases wm_ix v2 (n := n) (by omega) with h | ⟨h, h'⟩ | ⟨j, hj, rfl⟩
    · exact br_t h (br_t h (br_t rfl ⟨rfl, J⟩))
    · exact br_f h (br_t rfl (br_f (Int32.not_lt.mpr h') (br_f h (br_t rfl (br_t h' (br_t rfl ⟨rfl, J⟩))))))
    · have j0 : ¬ nI j < 0 := nI_pos (by omega)
      have j1 : ¬ nI n ≤ nI j := nI_ge hj (by omega)
      have j2 : vp_in (nI j) 40 := pk_in j 40 (by omega)
      exact br_f j0 (br_t rfl (br_t (nI_lt hj (by omega)) (br_t rfl ⟨j2, br_f j0 (br_t rfl (br_f j1 (br_f (by decide) (br_t rfl ⟨j2, rfl, J⟩))))⟩)))
  · rw [e]
    unfold wpX_letter wpX_length wpY_letter wpY_isLetter wY_isLetter_20
    dsimp only
    rcases wm_ix v2 (n := m) (by omega) with h | ⟨h, h'⟩ | ⟨j, hj, rfl⟩
    · exact br_t h (br_t h (br_t rfl ⟨rfl, J⟩))
    · exact br_f h (br_f (by decide) (br_f (Int32.not_lt.mpr h') (br_f h (br_f (by decide) (br_t h' (br_t rfl ⟨rfl, J⟩))))))
    · have j0 : ¬ nI j < 0 := nI_pos (by omega)
      have j1 : ¬ nI m ≤ nI j := nI_ge hj (by omega)
      have j2 : vp_in (nI j) 12 := pk_in j 12 (by omega)
      exact br_f j0 (br_f (by decide) (br_t (nI_lt hj (by omega)) (br_f (by decide) ⟨j2, br_f j0 (br_f (by decide) (br_f j1 (br_f (by decide) (br_f (by decide) ⟨j2, rfl, J⟩))))⟩)))
theorem i_vc_length {k : Nat} {u : SX} {v : SY} (I : i_Rel k u v) (hk : k + 4 ≤ 2048) (v1 : Int32) : wpX_length (fun r => wpY_length (fun r' => r' = r ∧ i_Rel (k + 4) u v) v (lw_bz v1)) u (lw_bz v1) := by
  have J : i_Rel (k + 4) u v := I
  obtain ⟨T, P, n, m, rd, rt, w, df, wr, hB, hr, hC, rfl, rfl⟩ := I
  generalize hu : i_Rel (k + 4) (nI n, nI m, rd, wm_t T, wm_t P, rt, wm_a w, df, wr) (nI n, nI m, wm_t T, wm_t P) = Q at J ⊢
  unfold wpX_length wpY_length
  dsimp only
  rcases lw_bz_01 v1 with e | e
  · exact br_t e (br_t e ⟨rfl, J⟩)
  · have e0 : ¬ lw_bz v1 = 0 := by rw [e]; decide
    exact br_f e0 (br_f e0 ⟨rfl, J⟩)
theorem i_vc_matches {k : Nat} {u : SX} {v : SY} (I : i_Rel k u v) (hk : k + 4 ≤ 2048) (v1 : Int32) : wpX_matches (fun r u' => wpY_matches (fun r' => r' = r ∧ i_Rel (k + 4) u' v) v v1) u v1 := by
  obtain ⟨T, P, n, m, rd, rt, w, df, wr, hB, hr, hC, rfl, rfl⟩ := I
  obtain ⟨hn, hm, hT, hP⟩ := id hB
  by_cases h : v1 < 0
  · unfold wpX_matches wpX_isShift wpY_matches wpY_isShift
    dsimp only
    exact br_t h (br_t rfl (br_t h (br_t rfl ⟨rfl, wm_mk hB hr hC⟩)))
  · obtain ⟨j, hj, rfl⟩ := nI_of h
    by_cases h2 : j + m ≤ n
    · by_cases z : wm_d T P n m j = 0
      · exact wm_Xmatch (b := 1) hB hr hC h2 (Or.inl ⟨z, rfl⟩) (fun rd' w' df' wr' hC' => wm_Ymatch (b := 1) hB h2 (Or.inl ⟨z, rfl⟩) ⟨rfl, wm_mk hB hr hC'⟩)
      · exact wm_Xmatch (b := 0) hB hr hC h2 (Or.inr ⟨z, rfl⟩) (fun rd' w' df' wr' hC' => wm_Ymatch (b := 0) hB h2 (Or.inr ⟨z, rfl⟩) ⟨rfl, wm_mk hB hr hC'⟩)
    · have s : nI n - nI m < nI j := by rw [wm_sh hn hm hj]; omega
      unfold wpX_matches wpX_isShift wpY_matches wpY_isShift
      dsimp only
      exact br_f h (br_t s (br_t rfl (br_f h (br_t s (br_t rfl ⟨rfl, wm_mk hB hr hC⟩)))))
theorem wm_D0 {n m : Nat} (hn : n ≤ 40) : 0 + (n + 1 - m) = n + 1 - m := by omega
theorem i_vc_matchCount {k : Nat} {u : SX} {v : SY} (I : i_Rel k u v) (hk : k + 4 ≤ 2048) : wpX_matchCount (fun r u' => wpY_matchCount (fun r' => r' = r ∧ i_Rel (k + 4) u' v) v) u := by
  obtain ⟨T, P, n, m, rd, rt, w, df, wr, hB, hr, hC, rfl, rfl⟩ := I
  obtain ⟨r, hX, hY⟩ := wm_mcount hB hr (n + 1 - m) 0 0 (wm_D0 hB.1)
  unfold wpX_matchCount wpY_matchCount
  dsimp only
  exact ⟨_, hX _ (fun rd' w' df' wr' hC' => ⟨_, hY _ ⟨rfl, wm_mk hB hr hC'⟩⟩) rd w df wr hC⟩
theorem i_vc_nextMatch {k : Nat} {u : SX} {v : SY} (I : i_Rel k u v) (hk : k + 4 ≤ 2048) (v1 : Int32) : wpX_nextMatch (fun r u' => wpY_nextMatch (fun r' => r' = r ∧ i_Rel (k + 4) u' v) v v1) u v1 := by
  obtain ⟨T, P, n, m, rd, rt, w, df, wr, hB, hr, hC, rfl, rfl⟩ := I
  obtain ⟨r, hX, hY⟩ := wm_next hB hr v1 (n + 1 - m) 0 (wm_D0 hB.1)
  unfold wpX_nextMatch wpY_nextMatch
  dsimp only
  exact ⟨_, hX _ (fun rd' w' df' wr' hC' => ⟨_, hY _ ⟨rfl, wm_mk hB hr hC'⟩⟩) rd w df wr hC⟩
theorem i_vc_mismatches {k : Nat} {u : SX} {v : SY} (I : i_Rel k u v) (hk : k + 4 ≤ 2048) (v1 : Int32) : wpX_mismatches (fun r u' => wpY_mismatches (fun r' => r' = r ∧ i_Rel (k + 4) u' v) v v1) u v1 := by
  obtain ⟨T, P, n, m, rd, rt, w, df, wr, hB, hr, hC, rfl, rfl⟩ := I
  obtain ⟨hn, hm, hT, hP⟩ := id hB
  unfold wpX_mismatches wpX_isShift wpY_mismatches wpY_isShift
  dsimp only
  by_cases h : v1 < 0
  · exact br_t h (br_t rfl (br_t h (br_t rfl ⟨rfl, wm_mk hB hr hC⟩)))
  · obtain ⟨j, hj, rfl⟩ := nI_of h
    by_cases h2 : j + m ≤ n
    · have s : ¬ nI n - nI m < nI j := by rw [wm_sh hn hm hj]; omega
      refine br_f h (br_f s (br_f (by decide) (wm_Xwrong hB hr hC (by omega) (fun rd' w' df' wr' hC' => ?_))))
      exact br_f h (br_f s (br_f (by decide) (wm_Ydif hB (by omega) (by omega) ⟨rfl, wm_mk hB hr hC'⟩)))
    · have s : nI n - nI m < nI j := by rw [wm_sh hn hm hj]; omega
      exact br_f h (br_t s (br_t rfl (br_f h (br_t s (br_t rfl ⟨rfl, wm_mk hB hr hC⟩)))))
theorem i_vc_bestShift {k : Nat} {u : SX} {v : SY} (I : i_Rel k u v) (hk : k + 4 ≤ 2048) : wpX_bestShift (fun r u' => wpY_bestShift (fun r' => r' = r ∧ i_Rel (k + 4) u' v) v) u := by
  obtain ⟨T, P, n, m, rd, rt, w, df, wr, hB, hr, hC, rfl, rfl⟩ := I
  obtain ⟨r, hX, hY⟩ := wm_best hB hr (n + 1 - m) 0 (-3) 13 100 (wm_D0 hB.1) (by omega) (Or.inr ⟨rfl, rfl⟩)
  unfold wpX_bestShift wpY_bestShift
  dsimp only
  exact ⟨_, hX _ (fun rd' w' df' wr' hC' => ⟨_, hY _ ⟨rfl, wm_mk hB hr hC'⟩⟩) rd w df wr hC⟩
theorem i_vc_within {k : Nat} {u : SX} {v : SY} (I : i_Rel k u v) (hk : k + 4 ≤ 2048) (v1 : Int32) : wpX_within (fun r u' => wpY_within (fun r' => r' = r ∧ i_Rel (k + 4) u' v) v v1) u v1 := by
  obtain ⟨T, P, n, m, rd, rt, w, df, wr, hB, hr, hC, rfl, rfl⟩ := I
  obtain ⟨r, hX, hY⟩ := wm_with hB hr v1 (n + 1 - m) 0 0 (wm_D0 hB.1)
  unfold wpX_within wpY_within
  dsimp only
  exact ⟨_, hX _ (fun rd' w' df' wr' hC' => ⟨_, hY _ ⟨rfl, wm_mk hB hr hC'⟩⟩) rd w df wr hC⟩
theorem i_vc_turnedMismatches {k : Nat} {u : SX} {v : SY} (I : i_Rel k u v) (hk : k + 4 ≤ 2048) (v1 : Int32) : wpX_turnedMismatches (fun r u' => wpY_turnedMismatches (fun r' => r' = r ∧ i_Rel (k + 4) u' v) v v1) u v1 := by
  obtain ⟨T, P, n, m, rd, rt, w, df, wr, hB, hr, hC, rfl, rfl⟩ := I
  obtain ⟨hn, hm, hT, hP⟩ := id hB
  unfold wpX_turnedMismatches wpY_turnedMismatches
  dsimp only
  rcases wm_ix v1 (n := n) (by omega) with h | ⟨h, h'⟩ | ⟨j, hj, rfl⟩
  · exact br_t h (br_t h ⟨rfl, wm_mk hB hr hC⟩)
  · exact br_f h (br_t h' (br_f h (br_t h' ⟨rfl, wm_mk hB hr hC⟩)))
  · have j0 : ¬ nI j < 0 := nI_pos (by omega)
    have j1 : ¬ nI n ≤ nI j := nI_ge hj (by omega)
    by_cases h2 : m ≤ n
    · refine br_f j0 (br_f j1 (br_t (nI_le h2 (by omega)) (wm_Xwrong hB hr hC (by omega) (fun rd' w' df' wr' hC' => ?_))))
      exact br_f j0 (br_f j1 (br_f (nI_nlt h2 (by omega)) (wm_Ydif hB (by omega) (by omega) ⟨rfl, wm_mk hB hr hC'⟩)))
    · exact br_f j0 (br_f j1 (br_f (nI_ge (by omega) (by omega)) (br_f j0 (br_f j1 (br_t (nI_lt (by omega) (by omega)) ⟨rfl, wm_mk hB hr hC⟩)))))
end
