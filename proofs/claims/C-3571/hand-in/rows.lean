section
/-! rows of the kit to paste (kit/rows/PURE-ROWS): stores, nI and lN arithmetic, branches by naturals -/
theorem pk_us {f : Nat → Int32} {k : Nat} {x : Int32} : upd f k x k = x := if_pos rfl
theorem pk_un {f : Nat → Int32} {k j : Nat} {x : Int32} (h : j ≠ k) : upd f k x j = f j := if_neg h
theorem pk_uLs {f : Nat → Int64} {k : Nat} {x : Int64} : vp_updL f k x k = x := if_pos rfl
theorem pk_uLn {f : Nat → Int64} {k j : Nat} {x : Int64} (h : j ≠ k) : vp_updL f k x j = f j := if_neg h
theorem pk_sub {a b : Nat} (h : b ≤ a) : nI a - nI b = nI (a - b) := by
  obtain ⟨c, rfl⟩ : ∃ c, a = c + b := ⟨a - b, by omega⟩
  rw [← nI_add, Int32.add_sub_cancel, Nat.add_sub_cancel]
theorem pk_m1 (n : Nat) : nI (n + 1) + (-1) = nI n := by
  rw [← nI_1, Int32.add_assoc, show (1 : Int32) + (-1) = 0 from rfl, Int32.add_zero]
theorem pk_mul (a b : Nat) : nI a * nI b = nI (a * b) := (Int32.ofNat_mul a b).symm
theorem pk_div {a d : Nat} (ha : a < 2 ^ 31) (h0 : 0 < d) (hd : d < 2 ^ 31) : nI a / nI d = nI (a / d) := by
  apply Int32.toInt_inj.mp
  rw [lg_idiv_nonneg (by rw [nI_toInt ha]; omega) (by rw [nI_toInt hd]; omega), nI_toInt ha, nI_toInt hd, nI_toInt (Nat.lt_of_le_of_lt (Nat.div_le_self a d) ha)]
  first | rfl | exact (Int.natCast_ediv _ _).symm
theorem pk_rem {a d : Nat} (ha : a < 2 ^ 31) (h0 : 0 < d) (hd : d < 2 ^ 31) : nI a - nI a / nI d * nI d = nI (a % d) := by
  rw [pk_div ha h0 hd, pk_mul, pk_sub (Nat.div_mul_le_self a d)]
  exact congrArg nI (by have := Nat.div_add_mod' a d; omega)
theorem pk_sub_toInt {a b : Nat} (ha : a < 2 ^ 30) (hb : b < 2 ^ 30) : (nI a - nI b).toInt = (a : Int) - b := by
  rw [Int32.toInt_sub, nI_toInt (by omega), nI_toInt (by omega)]
  exact Int.bmod_eq_of_le (by omega) (by omega)
theorem pk_sneg {a b : Nat} (hb : b < 2 ^ 30) (h : a < b) : nI a - nI b < 0 := by
  rw [Int32.lt_iff_toInt_lt, pk_sub_toInt (by omega) hb, show (0 : Int32).toInt = 0 from by decide]
  omega
theorem pk_ix (x : Int32) {n : Nat} (hn : n < 2 ^ 31) : x < 0 ∨ nI n ≤ x ∨ ∃ j : Nat, j < n ∧ x = nI j := by
  by_cases h : x < 0
  · exact Or.inl h
  · obtain ⟨j, hj, rfl⟩ := nI_of h
    by_cases h2 : j < n
    · exact Or.inr (Or.inr ⟨j, h2, rfl⟩)
    · exact Or.inr (Or.inl (nI_le (by omega) hj))
theorem pk_le {x y : Int32} {A B : Prop} (a b : Nat) (f : a ≤ b → A) (g : b < a → B) (hx : x = nI a := by rfl) (hy : y = nI b := by rfl) (ha : a < 2 ^ 31 := by omega) (hb : b < 2 ^ 31 := by omega) : (x ≤ y → A) ∧ (¬ x ≤ y → B) := by
  subst hx hy
  rw [nI_leI ha hb]
  exact ⟨f, fun z => g (by omega)⟩
theorem pk_lt {x y : Int32} {A B : Prop} (a b : Nat) (f : a < b → A) (g : b ≤ a → B) (hx : x = nI a := by rfl) (hy : y = nI b := by rfl) (ha : a < 2 ^ 31 := by omega) (hb : b < 2 ^ 31 := by omega) : (x < y → A) ∧ (¬ x < y → B) := by
  subst hx hy
  rw [nI_ltI ha hb]
  exact ⟨f, fun z => g (by omega)⟩
theorem pk_eq {x y : Int32} {A B : Prop} (a b : Nat) (f : a = b → A) (g : a ≠ b → B) (hx : x = nI a := by rfl) (hy : y = nI b := by rfl) (ha : a < 2 ^ 31 := by omega) (hb : b < 2 ^ 31 := by omega) : (x = y → A) ∧ (¬ x = y → B) := by
  subst hx hy
  rw [nI_eq ha hb]
  exact ⟨f, g⟩
theorem pk_in {x : Int32} (n N : Nat) (h : n < N) (hx : x = nI n := by rfl) (hN : N < 2 ^ 31 := by omega) : vp_in x N := by
  subst hx
  exact vp_in_nI h hN
theorem pk_cl {x : Int32} (n : Nat) (hx : x = nI n := by rfl) (h : n < 2 ^ 31 := by omega) : x.toNatClampNeg = n := by
  subst hx
  exact nI_clamp h
theorem pk_tn {n : Nat} (h : n < 2 ^ 32) : (nI n).toBitVec.toNat = n := Nat.mod_eq_of_lt h
theorem pk_and (x : Int32) {m : Int32} (k : Nat) (hm : m.toBitVec.toNat = 2 ^ k - 1) : x &&& m = nI (x.toBitVec.toNat % 2 ^ k) := by
  apply Int32.toBitVec_inj.mp
  apply BitVec.eq_of_toNat_eq
  rw [Int32.toBitVec_and, BitVec.toNat_and, hm, Nat.and_two_pow_sub_one_eq_mod]
  show _ = (BitVec.ofNat 32 _).toNat
  rw [BitVec.toNat_ofNat]
  exact (Nat.mod_eq_of_lt (Nat.lt_of_le_of_lt (Nat.mod_le _ _) x.toBitVec.isLt)).symm
theorem pk_andN {n : Nat} (h : n < 2 ^ 32) {m : Int32} (k : Nat) (hm : m.toBitVec.toNat = 2 ^ k - 1) : nI n &&& m = nI (n % 2 ^ k) := by
  rw [pk_and _ k hm, pk_tn h]
theorem pk_andE (x : Int32) {m : Int32} (k : Nat) (hm : m.toBitVec.toNat = 2 ^ k - 1) : ∃ j : Nat, j < 2 ^ k ∧ x &&& m = nI j := ⟨_, Nat.mod_lt _ (Nat.two_pow_pos k), pk_and x k hm⟩
theorem pk_andIn (x : Int32) {m : Int32} (k : Nat) (hm : m.toBitVec.toNat = 2 ^ k - 1) (hk : k ≤ 30) : vp_in (x &&& m) (2 ^ k) := by
  obtain ⟨j, hj, e⟩ := pk_andE x k hm
  rw [e]
  exact vp_in_nI hj (Nat.lt_of_le_of_lt (Nat.pow_le_pow_right (by decide) hk) (by decide))
theorem pk_shr (a s : Int32) (k : Nat) (hs : (s.toBitVec.smod 32).toNat = k) : (a >>> s).toInt = a.toInt >>> k := by
  show (a.toBitVec.sshiftRight (s.toBitVec.smod 32).toNat).toInt = _
  rw [hs, BitVec.toInt_sshiftRight]
  rfl
theorem pk_shrN {n : Nat} (h : n < 2 ^ 31) (s : Int32) (k : Nat) (hs : (s.toBitVec.smod 32).toNat = k) : nI n >>> s = nI (n / 2 ^ k) := by
  apply Int32.toInt_inj.mp
  have h2 : n / 2 ^ k ≤ n := Nat.div_le_self _ _
  rw [pk_shr _ _ k hs, nI_toInt h, nI_toInt (by omega), Int.shiftRight_eq_div_pow]
  rfl
theorem pk_lT {n : Nat} (h : n < 2 ^ 63) : (lN n).toInt = (n : Int) := lg_ofNat_toInt h
theorem pk_lLT {a b : Nat} (ha : a < 2 ^ 63) (hb : b < 2 ^ 63) : lN a < lN b ↔ a < b := by
  rw [Int64.lt_iff_toInt_lt, pk_lT ha, pk_lT hb]; omega
theorem pk_lLE {a b : Nat} (ha : a < 2 ^ 63) (hb : b < 2 ^ 63) : lN a ≤ lN b ↔ a ≤ b := by
  rw [Int64.le_iff_toInt_le, pk_lT ha, pk_lT hb]; omega
theorem pk_lEQ {a b : Nat} (ha : a < 2 ^ 63) (hb : b < 2 ^ 63) : lN a = lN b ↔ a = b := by
  rw [← Int64.toInt_inj, pk_lT ha, pk_lT hb]; omega
theorem pk_lOf {x : Int64} (h : ¬ x < 0) : ∃ k : Nat, k < 2 ^ 63 ∧ x = lN k := by
  rw [Int64.lt_iff_toInt_lt] at h
  have h0 : (0 : Int64).toInt = 0 := by decide
  have hx := Int64.toInt_lt x
  refine ⟨x.toInt.toNat, by omega, Int64.toInt_inj.mp ?_⟩
  rw [pk_lT (by omega)]
  omega
end
section
/-! loop laws without a state: counting up to N, counting down to 0 -/
theorem ff_up (W : Nat → Nat → Prop) (I : Nat → Prop) (N : Nat) (hx : ∀ n, I N → W (n + 1) N) (hs : ∀ n i, i < N → I i → (I (i + 1) → W n (i + 1)) → W (n + 1) i) :
    ∀ n i, i ≤ N → N - i < n → I i → W n i := by
  intro n
  induction n with
  | zero => intro i _ h; omega
  | succ n ih =>
    intro i hi hn hI
    by_cases h : i = N
    · subst h
      exact hx n hI
    · exact hs n i (by omega) hI (fun h' => ih (i + 1) (by omega) (by omega) h')
theorem ff_upE (W : Nat → Nat → Prop) (I : Nat → Prop) (N i0 : Nat) (h0 : i0 ≤ N) (hI : I i0) (hx : ∀ n, I N → W (n + 1) N) (hs : ∀ n i, i < N → I i → (I (i + 1) → W n (i + 1)) → W (n + 1) i) :
    ∃ n, W n i0 := ⟨N + 1, ff_up W I N hx hs (N + 1) i0 h0 (by omega) hI⟩
theorem ff_dn (W : Nat → Nat → Prop) (I : Nat → Prop) (hx : ∀ n, I 0 → W (n + 1) 0) (hs : ∀ n i, I (i + 1) → (I i → W n i) → W (n + 1) (i + 1)) :
    ∀ n i, i < n → I i → W n i := by
  intro n
  induction n with
  | zero => intro i h; omega
  | succ n ih =>
    intro i hi hI
    cases i with
    | zero => exact hx n hI
    | succ i => exact hs n i hI (fun h' => ih i (by omega) h')
/-! sums -/
def ff_sm (f : Nat → Nat) : Nat → Nat
  | 0 => 0
  | k + 1 => ff_sm f k + f k
theorem ff_sm_s (f : Nat → Nat) (k : Nat) : ff_sm f (k + 1) = ff_sm f k + f k := rfl
theorem ff_sm_z (f : Nat → Nat) : ff_sm f 0 = 0 := rfl
theorem ff_sm_congr {f g : Nat → Nat} {N : Nat} (h : ∀ k, k < N → f k = g k) : ff_sm f N = ff_sm g N := by
  induction N with
  | zero => rfl
  | succ N ih => rw [ff_sm_s, ff_sm_s, ih (fun k hk => h k (by omega)), h N (by omega)]
theorem ff_sm_add (f g : Nat → Nat) (N : Nat) : ff_sm (fun k => f k + g k) N = ff_sm f N + ff_sm g N := by
  induction N with
  | zero => rfl
  | succ N ih => rw [ff_sm_s, ff_sm_s, ff_sm_s, ih]; omega
theorem ff_sm_0 (N : Nat) : ff_sm (fun _ => 0) N = 0 := by
  induction N with
  | zero => rfl
  | succ N ih => rw [ff_sm_s, ih]
theorem ff_sm_0' {f : Nat → Nat} {N : Nat} (h : ∀ k, k < N → f k = 0) : ff_sm f N = 0 := by
  rw [ff_sm_congr (g := fun _ => 0) h, ff_sm_0]
theorem ff_sm_mul (f : Nat → Nat) (c N : Nat) : ff_sm (fun k => c * f k) N = c * ff_sm f N := by
  induction N with
  | zero => rfl
  | succ N ih => rw [ff_sm_s, ff_sm_s, ih, Nat.mul_add]
theorem ff_sm_le {f g : Nat → Nat} {N : Nat} (h : ∀ k, k < N → f k ≤ g k) : ff_sm f N ≤ ff_sm g N := by
  induction N with
  | zero => exact Nat.le_refl _
  | succ N ih =>
    have := ih (fun k hk => h k (by omega))
    have := h N (by omega)
    rw [ff_sm_s, ff_sm_s]; omega
theorem ff_sm_leN {f : Nat → Nat} {N : Nat} (h : ∀ k, k < N → f k ≤ 1) : ff_sm f N ≤ N := by
  induction N with
  | zero => exact Nat.le_refl _
  | succ N ih =>
    have := ih (fun k hk => h k (by omega))
    have := h N (by omega)
    rw [ff_sm_s]; omega
theorem ff_sm_swap (f : Nat → Nat → Nat) (b a : Nat) : ff_sm (fun i => ff_sm (fun j => f i j) b) a = ff_sm (fun j => ff_sm (fun i => f i j) a) b := by
  induction a with
  | zero => exact (ff_sm_0 b).symm
  | succ a ih =>
    have e := ff_sm_add (fun j => ff_sm (fun i => f i j) a) (fun j => f a j) b
    rw [ff_sm_s, ih]
    exact e.symm
theorem ff_sm_app (f : Nat → Nat) (a b : Nat) : ff_sm f (a + b) = ff_sm f a + ff_sm (fun j => f (a + j)) b := by
  induction b with
  | zero => rfl
  | succ b ih =>
    show ff_sm f (a + b) + f (a + b) = ff_sm f a + (ff_sm (fun j => f (a + j)) b + f (a + b))
    rw [ih, Nat.add_assoc]
theorem ff_sm_blk (f : Nat → Nat) (b a : Nat) : ff_sm f (a * b) = ff_sm (fun i => ff_sm (fun j => f (i * b + j)) b) a := by
  induction a with
  | zero => rw [Nat.zero_mul]; rfl
  | succ a ih => rw [Nat.succ_mul, ff_sm_app, ih, ff_sm_s]
theorem ff_sm_mono (f : Nat → Nat) {a b : Nat} (h : a ≤ b) : ff_sm f a ≤ ff_sm f b := by
  obtain ⟨d, rfl⟩ : ∃ d, b = a + d := ⟨b - a, by omega⟩
  rw [ff_sm_app]; omega
/-- exactly one place of a sum counts -/
theorem ff_sm_one (g : Nat → Nat) (t N : Nat) : ff_sm (fun s => if t = s then g s else 0) N = if t < N then g t else 0 := by
  induction N with
  | zero => rfl
  | succ N ih =>
    rw [ff_sm_s, ih]
    by_cases h : t = N
    · subst h
      rw [if_neg (Nat.lt_irrefl t), if_pos rfl, if_pos (Nat.lt_succ_self t), Nat.zero_add]
    · rw [if_neg h]
      by_cases h2 : t < N
      · rw [if_pos h2, if_pos (by omega), Nat.add_zero]
      · rw [if_neg h2, if_neg (by omega)]
/-- a sum split by kinds: each c of weight h c is of the kind φ c -/
theorem ff_cls (φ h g : Nat → Nat) (M N : Nat) (H : ∀ c, c < N → φ c < M ∨ h c = 0) :
    ff_sm (fun c => h c * g (φ c)) N = ff_sm (fun s => ff_sm (fun c => if φ c = s then h c else 0) N * g s) M := by
  induction N with
  | zero => exact (ff_sm_0' (fun k _ => Nat.zero_mul _)).symm
  | succ N ih =>
    rw [ff_sm_s, ih (fun c hc => H c (by omega))]
    have e : ff_sm (fun s => ff_sm (fun c => if φ c = s then h c else 0) (N + 1) * g s) M = ff_sm (fun s => ff_sm (fun c => if φ c = s then h c else 0) N * g s + (if φ N = s then h N * g s else 0)) M := by
      apply ff_sm_congr
      intro s _
      show (ff_sm (fun c => if φ c = s then h c else 0) N + (if φ N = s then h N else 0)) * g s = _
      rw [Nat.add_mul]
      by_cases z : φ N = s
      · rw [if_pos z, if_pos z]
      · rw [if_neg z, if_neg z, Nat.zero_mul]
    rw [e, ff_sm_add, ff_sm_one (fun s => h N * g s)]
    rcases H N (by omega) with z | z
    · rw [if_pos z]
    · rw [z]; simp
theorem ff_sm3 (f : Nat → Nat) : ff_sm f 3 = f 0 + f 1 + f 2 := by
  show 0 + f 0 + f 1 + f 2 = _
  omega
theorem ff_pos3 (n : Nat) : 0 < 3 ^ n := Nat.pow_pos (by decide)
theorem ff_pw (n : Nat) : 3 ^ (n + 1) = 3 ^ n * 3 := rfl
theorem ff_le3 {a b : Nat} (h : a ≤ b) : 3 ^ a ≤ 3 ^ b := Nat.pow_le_pow_right (by decide) h
theorem ff_le9 {n : Nat} (h : n ≤ 9) : 3 ^ n ≤ 19683 := ff_le3 h
/-- the sum over the words of n + 1 letters by the last letter -/
theorem ff_sm_snoc (f : Nat → Nat) (n : Nat) : ff_sm f (3 ^ (n + 1)) = ff_sm (fun c => f (c * 3) + f (c * 3 + 1) + f (c * 3 + 2)) (3 ^ n) := by
  rw [ff_pw, ff_sm_blk]
  exact ff_sm_congr (fun k _ => ff_sm3 _)
theorem ff_sm_pow (f : Nat → Nat) (n m : Nat) : ff_sm f (3 ^ (n + m)) = ff_sm (fun c => ff_sm (fun d => f (c * 3 ^ m + d)) (3 ^ m)) (3 ^ n) := by
  rw [Nat.pow_add, ff_sm_blk]
end
section
/-! words over three letters as numbers: (n, c), the last letter is c % 3 -/
def ff_rd (δ : Nat → Nat → Nat) (s : Nat) : Nat → Nat → Nat
  | 0, _ => s
  | n + 1, c => δ (ff_rd δ s n (c / 3)) (c % 3)
theorem ff_rd_0 (δ : Nat → Nat → Nat) (s c : Nat) : ff_rd δ s 0 c = s := rfl
theorem ff_rd_s (δ : Nat → Nat → Nat) (s n c : Nat) : ff_rd δ s (n + 1) c = δ (ff_rd δ s n (c / 3)) (c % 3) := rfl
theorem ff_rd_snoc (δ : Nat → Nat → Nat) (s n c l : Nat) (hl : l < 3) : ff_rd δ s (n + 1) (c * 3 + l) = δ (ff_rd δ s n c) l := by
  rw [ff_rd_s, show (c * 3 + l) / 3 = c by omega, show (c * 3 + l) % 3 = l by omega]
theorem ff_rd_app (δ : Nat → Nat → Nat) (s n c : Nat) : ∀ m d, d < 3 ^ m → ff_rd δ s (n + m) (c * 3 ^ m + d) = ff_rd δ (ff_rd δ s n c) m d := by
  intro m
  induction m with
  | zero =>
    intro d hd
    have h0 : d = 0 := by have : 3 ^ 0 = 1 := rfl; omega
    subst h0
    rw [show c * 3 ^ 0 + 0 = c by rw [Nat.pow_zero]; omega]
    rfl
  | succ m ih =>
    intro d hd
    have e : c * 3 ^ (m + 1) = c * 3 ^ m * 3 := by rw [ff_pw, Nat.mul_assoc]
    rw [ff_pw] at hd
    show δ (ff_rd δ s (n + m) ((c * 3 ^ (m + 1) + d) / 3)) ((c * 3 ^ (m + 1) + d) % 3) = δ (ff_rd δ (ff_rd δ s n c) m (d / 3)) (d % 3)
    rw [e, show (c * 3 ^ m * 3 + d) / 3 = c * 3 ^ m + d / 3 by omega, show (c * 3 ^ m * 3 + d) % 3 = d % 3 by omega, ih (d / 3) (by omega)]
def ff_W (S : Nat) (δ : Nat → Nat → Nat) : Nat → Nat → Nat
  | 0, s => if s < S then 1 else 0
  | n + 1, s => if s < S then ff_W S δ n (δ s 0) + ff_W S δ n (δ s 1) + ff_W S δ n (δ s 2) else 0
theorem ff_W_0 (S : Nat) (δ : Nat → Nat → Nat) (s : Nat) : ff_W S δ 0 s = if s < S then 1 else 0 := rfl
theorem ff_W_s (S : Nat) (δ : Nat → Nat → Nat) (n s : Nat) : ff_W S δ (n + 1) s = if s < S then ff_W S δ n (δ s 0) + ff_W S δ n (δ s 1) + ff_W S δ n (δ s 2) else 0 := rfl
theorem ff_W_out {S : Nat} {δ : Nat → Nat → Nat} {s : Nat} (h : ¬ s < S) (n : Nat) : ff_W S δ n s = 0 := by
  cases n with
  | zero => rw [ff_W_0, if_neg h]
  | succ n => rw [ff_W_s, if_neg h]
theorem ff_W_le (S : Nat) (δ : Nat → Nat → Nat) : ∀ n s, ff_W S δ n s ≤ 3 ^ n := by
  intro n
  induction n with
  | zero => intro s; rw [ff_W_0, Nat.pow_zero]; split <;> omega
  | succ n ih =>
    intro s
    rw [ff_W_s, ff_pw]
    have a := ih (δ s 0)
    have b := ih (δ s 1)
    have c := ih (δ s 2)
    split <;> omega
theorem ff_W_63 (S : Nat) (δ : Nat → Nat → Nat) {n : Nat} (hn : n ≤ 30) (s : Nat) : ff_W S δ n s < 2 ^ 63 := by
  have a := ff_W_le S δ n s
  have b : 3 ^ n ≤ 3 ^ 30 := ff_le3 hn
  have c : 3 ^ 30 < 2 ^ 63 := by decide
  omega
theorem ff_W_31 (S : Nat) (δ : Nat → Nat → Nat) {n : Nat} (hn : n ≤ 9) (s : Nat) : ff_W S δ n s ≤ 19683 := by
  have a := ff_W_le S δ n s
  have b := ff_le9 hn
  omega
/-- the machine's table is well formed -/
def ff_Au (S : Nat) (δ : Nat → Nat → Nat) : Prop := 0 < S ∧ S ≤ 19 ∧ (∀ s l, s < S → l < 3 → δ s l < S ∨ δ s l = 25) ∧ (∀ l, l < 3 → δ 25 l = 25)
theorem ff_rd_25 {S : Nat} {δ : Nat → Nat → Nat} (A : ff_Au S δ) : ∀ n c, ff_rd δ 25 n c = 25 := by
  intro n
  induction n with
  | zero => intro c; rfl
  | succ n ih => intro c; rw [ff_rd_s, ih, A.2.2.2 _ (by omega)]
theorem ff_rd_in {S : Nat} {δ : Nat → Nat → Nat} (A : ff_Au S δ) {s : Nat} (hs : s < S ∨ s = 25) : ∀ n c, ff_rd δ s n c < S ∨ ff_rd δ s n c = 25 := by
  intro n
  induction n with
  | zero => intro c; exact hs
  | succ n ih =>
    intro c
    rw [ff_rd_s]
    rcases ih (c / 3) with h | h
    · exact A.2.2.1 _ _ h (by omega)
    · rw [h, A.2.2.2 _ (by omega)]; exact Or.inr rfl
theorem ff_rd_26 {S : Nat} {δ : Nat → Nat → Nat} (A : ff_Au S δ) {s : Nat} (hs : s < S ∨ s = 25) (n c : Nat) : ff_rd δ s n c < 26 := by
  have := A.2.1
  rcases ff_rd_in A hs n c with h | h <;> omega
theorem ff_dl_26 {S : Nat} {δ : Nat → Nat → Nat} (A : ff_Au S δ) {s l : Nat} (hs : s < S ∨ s = 25) (hl : l < 3) : δ s l < S ∨ δ s l = 25 := by
  rcases hs with h | h
  · exact A.2.2.1 _ _ h hl
  · rw [h, A.2.2.2 _ hl]; exact Or.inr rfl
def ff_lv (δ : Nat → Nat → Nat) (s n c : Nat) : Nat := if ff_rd δ s n c = 25 then 0 else 1
theorem ff_W_eq {S : Nat} {δ : Nat → Nat → Nat} (A : ff_Au S δ) : ∀ n s, (s < S ∨ s = 25) → ff_W S δ n s = ff_sm (ff_lv δ s n) (3 ^ n) := by
  intro n
  have hS := A.2.1
  induction n with
  | zero =>
    intro s hs
    rw [ff_W_0]
    show _ = 0 + (if s = 25 then 0 else 1)
    rcases hs with h | h
    · rw [if_pos h, if_neg (by omega)]
    · rw [if_neg (by omega), if_pos h]
  | succ n ih =>
    intro s hs
    rw [ff_W_s, Nat.add_comm n 1, ff_sm_pow, show 3 ^ 1 = 3 from rfl, ff_sm3]
    have key : ∀ l, l < 3 → ff_sm (fun d => ff_lv δ s (1 + n) (l * 3 ^ n + d)) (3 ^ n) = ff_sm (ff_lv δ (δ s l) n) (3 ^ n) := by
      intro l hl
      apply ff_sm_congr
      intro d hd
      unfold ff_lv
      rw [ff_rd_app δ s 1 l n d hd]
      show (if ff_rd δ (δ s (l % 3)) n d = 25 then 0 else 1) = _
      rw [Nat.mod_eq_of_lt hl]
    rw [key 0 (by omega), key 1 (by omega), key 2 (by omega)]
    rcases hs with h | h
    · rw [if_pos h, ih _ (A.2.2.1 _ _ h (by omega)), ih _ (A.2.2.1 _ _ h (by omega)), ih _ (A.2.2.1 _ _ h (by omega))]
    · subst h
      rw [if_neg (by omega), A.2.2.2 0 (by omega), A.2.2.2 1 (by omega), A.2.2.2 2 (by omega)]
      have z : ff_sm (ff_lv δ 25 n) (3 ^ n) = 0 := ff_sm_0' (fun k _ => by unfold ff_lv; rw [ff_rd_25 A, if_pos rfl])
      rw [z]
/-! good words: no barred piece ends at any letter -/
def ff_E (B : Nat → Bool) (n c : Nat) : Bool :=
  !(B (3 + c % 3)) && (decide (n ≤ 1) || !(B (9 + c % 9))) && (decide (n ≤ 2) || !(B (27 + c % 27))) && (decide (n ≤ 3) || !(B (81 + c % 81)))
theorem ff_E_iff (B : Nat → Bool) (n c : Nat) : ff_E B n c = true ↔ (B (3 + c % 3) = false ∧ (1 < n → B (9 + c % 9) = false) ∧ (2 < n → B (27 + c % 27) = false) ∧ (3 < n → B (81 + c % 81) = false)) := by
  unfold ff_E
  simp only [Bool.and_eq_true, Bool.or_eq_true, decide_eq_true_eq, Bool.not_eq_true']
  constructor
  · rintro ⟨⟨⟨a, b⟩, c⟩, d⟩
    exact ⟨a, fun h => b.resolve_left (by omega), fun h => c.resolve_left (by omega), fun h => d.resolve_left (by omega)⟩
  · rintro ⟨a, b, c, d⟩
    refine ⟨⟨⟨a, ?_⟩, ?_⟩, ?_⟩
    · rcases Nat.lt_or_ge 1 n with h | h
      · exact Or.inr (b h)
      · exact Or.inl h
    · rcases Nat.lt_or_ge 2 n with h | h
      · exact Or.inr (c h)
      · exact Or.inl h
    · rcases Nat.lt_or_ge 3 n with h | h
      · exact Or.inr (d h)
      · exact Or.inl h
def ff_gd (B : Nat → Bool) : Nat → Nat → Bool
  | 0, _ => true
  | n + 1, c => ff_E B (n + 1) c && ff_gd B n (c / 3)
theorem ff_gd_0 (B : Nat → Bool) (c : Nat) : ff_gd B 0 c = true := rfl
theorem ff_gd_s (B : Nat → Bool) (n c : Nat) : ff_gd B (n + 1) c = (ff_E B (n + 1) c && ff_gd B n (c / 3)) := rfl
theorem ff_gd_pre (B : Nat → Bool) (n c : Nat) : ∀ m d, d < 3 ^ m → ff_gd B (n + m) (c * 3 ^ m + d) = true → ff_gd B n c = true := by
  intro m
  induction m with
  | zero =>
    intro d hd h
    have h0 : d = 0 := by have : 3 ^ 0 = 1 := rfl; omega
    subst h0
    rw [show c * 3 ^ 0 + 0 = c by rw [Nat.pow_zero]; omega] at h
    exact h
  | succ m ih =>
    intro d hd h
    have e : c * 3 ^ (m + 1) = c * 3 ^ m * 3 := by rw [ff_pw, Nat.mul_assoc]
    rw [ff_pw] at hd
    have h2 : (ff_E B (n + m + 1) (c * 3 ^ (m + 1) + d) && ff_gd B (n + m) ((c * 3 ^ (m + 1) + d) / 3)) = true := h
    rw [Bool.and_eq_true] at h2
    apply ih (d / 3) (by omega)
    have h3 := h2.2
    rw [e, show (c * 3 ^ m * 3 + d) / 3 = c * 3 ^ m + d / 3 by omega] at h3
    exact h3
def ff_gn (B : Nat → Bool) (n c : Nat) : Nat := if ff_gd B n c = true then 1 else 0
theorem ff_gn_le (B : Nat → Bool) (n c : Nat) : ff_gn B n c ≤ 1 := by unfold ff_gn; split <;> omega
theorem ff_gn_t {B : Nat → Bool} {n c : Nat} (h : ff_gd B n c = true) : ff_gn B n c = 1 := if_pos h
theorem ff_gn_f {B : Nat → Bool} {n c : Nat} (h : ff_gd B n c = false) : ff_gn B n c = 0 := if_neg (by rw [h]; decide)
theorem ff_gn_pre (B : Nat → Bool) (n c m d : Nat) (hd : d < 3 ^ m) : ff_gn B n c * ff_gn B (n + m) (c * 3 ^ m + d) = ff_gn B (n + m) (c * 3 ^ m + d) := by
  cases h : ff_gd B (n + m) (c * 3 ^ m + d) with
  | false => rw [ff_gn_f h, Nat.mul_zero]
  | true => rw [ff_gn_t h, ff_gn_t (ff_gd_pre B n c m d hd h)]
def ff_R (B : Nat → Bool) (n x : Nat) : Nat := ff_sm (ff_gn B n) x
def ff_G (B : Nat → Bool) (n : Nat) : Nat := ff_sm (ff_gn B n) (3 ^ n)
theorem ff_R_s (B : Nat → Bool) (n x : Nat) : ff_R B n (x + 1) = ff_R B n x + ff_gn B n x := rfl
theorem ff_R_le (B : Nat → Bool) (n x : Nat) : ff_R B n x ≤ x := ff_sm_leN (fun k _ => ff_gn_le B n k)
theorem ff_R_mono (B : Nat → Bool) (n : Nat) {x y : Nat} (h : x ≤ y) : ff_R B n x ≤ ff_R B n y := ff_sm_mono _ h
theorem ff_G_le (B : Nat → Bool) (n : Nat) : ff_G B n ≤ 3 ^ n := ff_R_le B n _
/-- the machine dies exactly at the words that aren't good -/
def ff_Ok (B : Nat → Bool) (δ : Nat → Nat → Nat) : Prop := ∀ n c, ff_rd δ 0 n c = 25 ↔ ff_gd B n c = false
theorem ff_lv_gn {B : Nat → Bool} {δ : Nat → Nat → Nat} (O : ff_Ok B δ) (n c : Nat) : ff_lv δ 0 n c = ff_gn B n c := by
  unfold ff_lv
  cases h : ff_gd B n c with
  | false => rw [if_pos ((O n c).mpr h), ff_gn_f h]
  | true => rw [if_neg (fun z => by rw [(O n c).mp z] at h; cases h), ff_gn_t h]
theorem ff_W_G {B : Nat → Bool} {S : Nat} {δ : Nat → Nat → Nat} (A : ff_Au S δ) (O : ff_Ok B δ) (n : Nat) : ff_W S δ n 0 = ff_G B n := by
  rw [ff_W_eq A n 0 (Or.inl A.1)]
  exact ff_sm_congr (fun k _ => ff_lv_gn O n k)
theorem ff_blk {B : Nat → Bool} {S : Nat} {δ : Nat → Nat → Nat} (A : ff_Au S δ) (O : ff_Ok B δ) (n m c : Nat) :
    ff_sm (fun d => ff_gn B (n + m) (c * 3 ^ m + d)) (3 ^ m) = ff_W S δ m (ff_rd δ 0 n c) := by
  rw [ff_W_eq A m _ (ff_rd_in A (Or.inl A.1) n c)]
  apply ff_sm_congr
  intro d hd
  show ff_gn B (n + m) (c * 3 ^ m + d) = if ff_rd δ (ff_rd δ 0 n c) m d = 25 then 0 else 1
  rw [← ff_lv_gn O, ← ff_rd_app δ 0 n c m d hd]
  rfl
/-- counting below a code, by one letter more -/
theorem ff_bel {B : Nat → Bool} {S : Nat} {δ : Nat → Nat → Nat} (A : ff_Au S δ) (O : ff_Ok B δ) (m k q l : Nat) (hl : l ≤ 3) :
    ff_R B (m + 1 + k) ((q * 3 + l) * 3 ^ k) = ff_R B (m + 1 + k) (q * 3 ^ (k + 1)) + ff_sm (fun c => ff_W S δ k (δ (ff_rd δ 0 m q) c)) l := by
  have e : (q * 3 + l) * 3 ^ k = q * 3 ^ (k + 1) + l * 3 ^ k := by
    rw [Nat.add_mul, ff_pw, Nat.mul_comm (3 ^ k) 3, Nat.mul_assoc]
  unfold ff_R
  rw [e, ff_sm_app, ff_sm_blk (fun j => ff_gn B (m + 1 + k) (q * 3 ^ (k + 1) + j)) (3 ^ k) l]
  congr 1
  apply ff_sm_congr
  intro i hi
  rw [← ff_rd_snoc δ 0 m q i (by omega), ← ff_blk A O]
  apply ff_sm_congr
  intro d _
  show ff_gn B (m + 1 + k) (q * 3 ^ (k + 1) + (i * 3 ^ k + d)) = ff_gn B (m + 1 + k) ((q * 3 + i) * 3 ^ k + d)
  congr 1
  rw [Nat.add_mul, ff_pw, Nat.mul_comm (3 ^ k) 3, Nat.mul_assoc, Nat.add_assoc]
/-- q is the word with i good words before it -/
def ff_un (B : Nat → Bool) (n i q : Nat) : Prop := q < 3 ^ n ∧ ff_gd B n q = true ∧ ff_R B n q = i
theorem ff_un_lt {B : Nat → Bool} {n i q q' : Nat} (h : ff_un B n i q) (hq : q < q') : i < ff_R B n q' := by
  have a := ff_R_mono B n (x := q + 1) (y := q') (by omega)
  rw [ff_R_s, ff_gn_t h.2.1, h.2.2] at a
  omega
theorem ff_un_G {B : Nat → Bool} {n i q : Nat} (h : ff_un B n i q) : i < ff_G B n := ff_un_lt h h.1
theorem ff_un_u {B : Nat → Bool} {n i q q' : Nat} (h : ff_un B n i q) (h' : ff_un B n i q') : q = q' := by
  rcases Nat.lt_trichotomy q q' with z | z | z
  · have a := ff_un_lt h z
    rw [h'.2.2] at a; omega
  · exact z
  · have a := ff_un_lt h' z
    rw [h.2.2] at a; omega
end
section
/-! the machine of beginnings: it stands at the longest beginning that the word ends with -/
def ff_sf (i c : Nat) : Nat := 3 ^ i + c % 3 ^ i
theorem ff_sf_0 (c : Nat) : ff_sf 0 c = 1 := by unfold ff_sf; rw [Nat.pow_zero, Nat.mod_one]
theorem ff_mod3 (i c : Nat) : c % 3 ^ (i + 1) = (c / 3 % 3 ^ i) * 3 + c % 3 := by
  rw [ff_pw, Nat.mul_comm (3 ^ i) 3, Nat.mod_mul]; omega
theorem ff_sf_s (i c : Nat) : ff_sf (i + 1) c = 3 * ff_sf i (c / 3) + c % 3 := by
  unfold ff_sf; rw [ff_mod3, ff_pw]; omega
theorem ff_sf_p (i c : Nat) : ff_sf (i + 1) c / 3 = ff_sf i (c / 3) := by rw [ff_sf_s]; omega
theorem ff_sf_mod {i z : Nat} (h : i ≤ z) (c : Nat) : ff_sf i (c % 3 ^ z) = ff_sf i c := by
  unfold ff_sf; rw [Nat.mod_mod_of_dvd c (Nat.pow_dvd_pow 3 h)]
theorem ff_sf_lt (i c : Nat) : ff_sf i c < 2 * 3 ^ i := by
  unfold ff_sf
  have := Nat.mod_lt c (ff_pos3 i)
  omega
theorem ff_sf_ge (i c : Nat) : 3 ^ i ≤ ff_sf i c := Nat.le_add_right _ _
theorem ff_sf_162 {i : Nat} (h : i ≤ 4) (c : Nat) : ff_sf i c < 162 := by
  have a := ff_sf_lt i c
  have b : 3 ^ i ≤ 3 ^ 4 := ff_le3 h
  have e : 3 ^ 4 = 81 := rfl
  omega
theorem ff_E_sf (B : Nat → Bool) {n : Nat} (c : Nat) (hn : 0 < n) : ff_E B n c = true ↔ ∀ i, 1 ≤ i → i ≤ 4 → i ≤ n → B (ff_sf i c) = false := by
  rw [ff_E_iff]
  constructor
  · rintro ⟨a1, a2, a3, a4⟩ i h1 h4 hi
    have h : i = 1 ∨ i = 2 ∨ i = 3 ∨ i = 4 := by omega
    rcases h with rfl | rfl | rfl | rfl
    · exact a1
    · exact a2 (by omega)
    · exact a3 (by omega)
    · exact a4 (by omega)
  · intro h
    exact ⟨h 1 (by omega) (by omega) (by omega), fun z => h 2 (by omega) (by omega) (by omega), fun z => h 3 (by omega) (by omega) (by omega), fun z => h 4 (by omega) (by omega) (by omega)⟩
/-- p is one of the listed pieces -/
def ff_P (c : Nat) (li : Nat → Int32) (p : Nat) : Prop := ∃ i, i < c ∧ li i = nI p
/-- what the search for a target answers: z letters, their number x -/
def ff_tg (P : Nat → Prop) (kn : Nat → Int32) (S z x r : Nat) : Prop :=
  (r = 25 ∧ ∃ i, 1 ≤ i ∧ i ≤ z ∧ P (ff_sf i x)) ∨
  ((∀ i, 1 ≤ i → i ≤ z → ¬ P (ff_sf i x)) ∧ r < S ∧ ∃ i, i ≤ z ∧ kn r = nI (ff_sf i x) ∧ ∀ j, i < j → j ≤ z → ∀ t, t < S → kn t ≠ nI (ff_sf j x))
def ff_Kn (c : Nat) (li kn : Nat → Int32) (S : Nat) : Prop :=
  0 < S ∧ S ≤ 19 ∧ kn 0 = nI 1 ∧
  (∀ s, s < S → ∃ j x, j ≤ 3 ∧ x < 3 ^ j ∧ kn s = nI (3 ^ j + x) ∧ (0 < j → ∃ t, t < S ∧ kn t = nI ((3 ^ j + x) / 3))) ∧
  (∀ i p, i < c → p < 162 → li i = nI p → ∃ t, t < S ∧ kn t = nI (p / 3))
def ff_St (c : Nat) (li kn : Nat → Int32) (S : Nat) (st : Nat → Int32) : Prop :=
  ∀ s l, s < S → l < 3 → ∀ j x, j ≤ 3 → x < 3 ^ j → kn s = nI (3 ^ j + x) → ∃ r, st (3 * s + l) = nI r ∧ ff_tg (ff_P c li) kn S (j + 1) (x * 3 + l) r
theorem ff_nInj {a b : Nat} (ha : a < 2 ^ 31) (hb : b < 2 ^ 31) (h : nI a = nI b) : a = b := (nI_eq ha hb).mp h
theorem ff_j54 {j x : Nat} (hj : j ≤ 3) (hx : x < 3 ^ j) : 3 ^ j + x < 54 := by
  have b : 3 ^ j ≤ 3 ^ 3 := ff_le3 hj
  have e : 3 ^ 3 = 27 := rfl
  omega
theorem ff_acs {c S : Nat} {li kn : Nat → Int32} {B : Nat → Bool} (hK : ff_Kn c li kn S) (hB : ∀ p, p < 162 → (B p = true ↔ ff_P c li p)) {n w r j : Nat}
    (hj : j ≤ 3) (hjn : j ≤ n) (hm : ∀ j', j < j' → j' ≤ n → j' ≤ 3 → ∀ t, t < S → kn t ≠ nI (ff_sf j' (w / 3)))
    (ht : ff_tg (ff_P c li) kn S (j + 1) (w % 3 ^ (j + 1)) r) :
    (ff_E B (n + 1) w = false ∧ r = 25) ∨ (ff_E B (n + 1) w = true ∧ r < S ∧ ∃ i, i ≤ 3 ∧ i ≤ n + 1 ∧ kn r = nI (ff_sf i w) ∧ ∀ j', i < j' → j' ≤ n + 1 → j' ≤ 3 → ∀ t, t < S → kn t ≠ nI (ff_sf j' w)) := by
  obtain ⟨_, _, _, hK4, hK5⟩ := hK
  rcases ht with ⟨hr, i, h1, hz, hP⟩ | ⟨hnP, hr, i, hi, hki, hmx⟩
  · left
    refine ⟨?_, hr⟩
    cases hE : ff_E B (n + 1) w with
    | false => rfl
    | true =>
      have a := (ff_E_sf B w (Nat.succ_pos n)).mp hE i h1 (by omega) (by omega)
      rw [ff_sf_mod hz] at hP
      have b := (hB _ (ff_sf_162 (by omega) w)).mpr hP
      rw [a] at b
      cases b
  · right
    refine ⟨?_, hr, i, ?_, by omega, ?_, ?_⟩
    · rw [ff_E_sf B w (Nat.succ_pos n)]
      intro a ha1 ha4 han
      cases hb : B (ff_sf a w) with
      | false => rfl
      | true =>
        exfalso
        have hP := (hB _ (ff_sf_162 ha4 w)).mp hb
        rcases Nat.lt_or_ge (j + 1) a with z | z
        · obtain ⟨q, hq, e⟩ := hP
          obtain ⟨t, ht, et⟩ := hK5 q _ hq (ff_sf_162 ha4 w) e
          obtain ⟨b, rfl⟩ : ∃ b, a = b + 1 := ⟨a - 1, by omega⟩
          rw [ff_sf_p] at et
          exact hm b (by omega) (by omega) (by omega) t ht et
        · apply hnP a ha1 z
          rw [ff_sf_mod z]
          exact hP
    · rcases Nat.lt_or_ge 3 i with z | z
      · exfalso
        have e4 : i = 4 := by omega
        subst e4
        obtain ⟨a, x, ha, hx, e, _⟩ := hK4 r hr
        rw [hki, ff_sf_mod hi] at e
        have l1 := ff_sf_162 (i := 4) (by omega) w
        have l2 := ff_j54 ha hx
        have l3 := ff_sf_ge 4 w
        have l4 : 3 ^ 4 = 81 := rfl
        have := ff_nInj (by omega) (by omega) e
        omega
      · exact z
    · rw [← ff_sf_mod hi w]
      exact hki
    · intro j' h1 h2 h3 t ht h
      rcases Nat.lt_or_ge (j + 1) j' with z | z
      · obtain ⟨b, rfl⟩ : ∃ b, j' = b + 1 := ⟨j' - 1, by omega⟩
        obtain ⟨a, x, ha, hx, e, ep⟩ := hK4 t ht
        rw [h] at e
        have l1 := ff_sf_162 (i := b + 1) (by omega) w
        have l2 := ff_j54 ha hx
        have l3 := ff_sf_ge (b + 1) w
        have l4 := ff_pw b
        have l5 := ff_pos3 b
        have e2 := ff_nInj (by omega) (by omega) e
        have ha0 : 0 < a := by
          rcases Nat.eq_zero_or_pos a with y | y
          · subst y
            rw [Nat.pow_zero] at hx e2
            omega
          · exact y
        obtain ⟨t', ht', et'⟩ := ep ha0
        rw [← e2, ff_sf_p] at et'
        exact hm b (by omega) (by omega) (by omega) t' ht' et'
      · apply hmx j' h1 z t ht
        rw [ff_sf_mod z]
        exact h
def ff_dl (st : Nat → Int32) (s l : Nat) : Nat := (st (3 * s + l)).toNatClampNeg
theorem ff_ac {c S : Nat} {li kn st : Nat → Int32} {B : Nat → Bool} (hK : ff_Kn c li kn S) (hB : ∀ p, p < 162 → (B p = true ↔ ff_P c li p)) (hS : ff_St c li kn S st)
    (hD : ∀ l, l < 3 → st (75 + l) = nI 25) : ∀ n w,
    (ff_gd B n w = true → ff_rd (ff_dl st) 0 n w < S ∧ ∃ j, j ≤ 3 ∧ j ≤ n ∧ kn (ff_rd (ff_dl st) 0 n w) = nI (ff_sf j w) ∧ ∀ j', j < j' → j' ≤ n → j' ≤ 3 → ∀ t, t < S → kn t ≠ nI (ff_sf j' w)) ∧
    (ff_gd B n w = false → ff_rd (ff_dl st) 0 n w = 25) := by
  intro n
  induction n with
  | zero =>
    intro w
    refine ⟨fun _ => ⟨hK.1, 0, by omega, by omega, ?_, fun j' h1 h2 => by omega⟩, fun h => by cases h⟩
    rw [ff_sf_0]
    exact hK.2.2.1
  | succ n ih =>
    intro w
    obtain ⟨ih1, ih2⟩ := ih (w / 3)
    rw [ff_rd_s, ff_gd_s]
    cases hg : ff_gd B n (w / 3) with
    | false =>
      rw [Bool.and_false, ih2 hg]
      refine ⟨fun h => (by cases h), fun _ => ?_⟩
      show (st (3 * 25 + w % 3)).toNatClampNeg = 25
      rw [show 3 * 25 = 75 from rfl, hD _ (by omega), nI_clamp (by decide)]
    | true =>
      obtain ⟨hs, j, hj, hjn, hk, hm⟩ := ih1 hg
      rw [Bool.and_true]
      obtain ⟨r, er, htg⟩ := hS _ (w % 3) hs (by omega) j (w / 3 % 3 ^ j) hj (Nat.mod_lt _ (ff_pos3 j)) hk
      rw [← ff_mod3] at htg
      have hr : r ≤ 25 := by
        have := hK.2.1
        rcases htg with ⟨h, _⟩ | ⟨_, h, _⟩ <;> omega
      have ed : ff_dl st (ff_rd (ff_dl st) 0 n (w / 3)) (w % 3) = r := by
        show (st (3 * ff_rd (ff_dl st) 0 n (w / 3) + w % 3)).toNatClampNeg = r
        rw [er, nI_clamp (by omega)]
      rw [ed]
      rcases ff_acs hK hB hj hjn hm htg with ⟨e1, e2⟩ | ⟨e1, e2, e3⟩
      · rw [e1]
        exact ⟨fun h => (by cases h), fun _ => e2⟩
      · rw [e1]
        obtain ⟨i, a1, a2, a3, a4⟩ := e3
        exact ⟨fun _ => ⟨e2, i, a1, a2, a3, a4⟩, fun h => (by cases h)⟩
theorem ff_au {c S : Nat} {li kn st : Nat → Int32} (hK : ff_Kn c li kn S) (hS : ff_St c li kn S st) (hD : ∀ l, l < 3 → st (75 + l) = nI 25) :
    ff_Au S (ff_dl st) ∧ ∀ s l, (s < S ∨ s = 25) → l < 3 → st (3 * s + l) = nI (ff_dl st s l) := by
  have key : ∀ s l, s < S → l < 3 → ∃ r, st (3 * s + l) = nI r ∧ (r < S ∨ r = 25) := by
    intro s l hs hl
    obtain ⟨j, x, hj, hx, e, _⟩ := hK.2.2.2.1 s hs
    obtain ⟨r, er, ht⟩ := hS s l hs hl j x hj hx e
    refine ⟨r, er, ?_⟩
    rcases ht with ⟨h, _⟩ | ⟨_, h, _⟩
    · exact Or.inr h
    · exact Or.inl h
  have h19 := hK.2.1
  refine ⟨⟨hK.1, hK.2.1, ?_, ?_⟩, ?_⟩
  · intro s l hs hl
    obtain ⟨r, er, hr⟩ := key s l hs hl
    show (st (3 * s + l)).toNatClampNeg < S ∨ (st (3 * s + l)).toNatClampNeg = 25
    rw [er, nI_clamp (by omega)]
    exact hr
  · intro l hl
    show (st (3 * 25 + l)).toNatClampNeg = 25
    rw [show 3 * 25 = 75 from rfl, hD _ hl, nI_clamp (by decide)]
  · intro s l hs hl
    rcases hs with hs | hs
    · obtain ⟨r, er, hr⟩ := key s l hs hl
      show st (3 * s + l) = nI (st (3 * s + l)).toNatClampNeg
      rw [er, nI_clamp (by omega)]
    · subst hs
      show st (3 * 25 + l) = nI (st (3 * 25 + l)).toNatClampNeg
      rw [show 3 * 25 = 75 from rfl, hD _ hl, nI_clamp (by decide)]
theorem ff_ok {c S : Nat} {li kn st : Nat → Int32} {B : Nat → Bool} (hK : ff_Kn c li kn S) (hB : ∀ p, p < 162 → (B p = true ↔ ff_P c li p)) (hS : ff_St c li kn S st)
    (hD : ∀ l, l < 3 → st (75 + l) = nI 25) : ff_Ok B (ff_dl st) := by
  intro n w
  obtain ⟨h1, h2⟩ := ff_ac hK hB hS hD n w
  refine ⟨fun h => ?_, h2⟩
  cases hg : ff_gd B n w with
  | false => rfl
  | true =>
    have := (h1 hg).1
    have := hK.2.1
    omega
end
section
/-! counts by state: words of some letters, a piece, and some letters more -/
theorem ff_ite (p : Prop) [Decidable p] (a : Nat) : (if p then a else 0) = a * (if p then 1 else 0) := by
  by_cases h : p
  · rw [if_pos h, if_pos h, Nat.mul_one]
  · rw [if_neg h, if_neg h, Nat.mul_zero]
theorem ff_lv_0 {δ : Nat → Nat → Nat} {s n c : Nat} (h : ff_rd δ s n c = 25) : ff_lv δ s n c = 0 := if_pos h
theorem ff_lv_1 {δ : Nat → Nat → Nat} {s n c : Nat} (h : ff_rd δ s n c ≠ 25) : ff_lv δ s n c = 1 := if_neg h
def ff_N (δ : Nat → Nat → Nat) (t s : Nat) : Nat := ff_sm (fun c => if ff_rd δ 0 t c = s then ff_lv δ 0 t c else 0) (3 ^ t)
theorem ff_N_0 (δ : Nat → Nat → Nat) (s : Nat) : ff_N δ 0 s = if s = 0 then 1 else 0 := by
  show 0 + (if 0 = s then (if 0 = 25 then 0 else 1) else 0) = _
  by_cases h : s = 0
  · subst h; rfl
  · rw [if_neg (fun z => h z.symm), if_neg h]
theorem ff_N_25 (δ : Nat → Nat → Nat) (t : Nat) : ff_N δ t 25 = 0 := by
  apply ff_sm_0'
  intro c _
  by_cases h : ff_rd δ 0 t c = 25
  · rw [if_pos h, ff_lv_0 h]
  · rw [if_neg h]
theorem ff_N_s {S : Nat} {δ : Nat → Nat → Nat} (A : ff_Au S δ) (t : Nat) {j : Nat} (hj : j ≠ 25) :
    ff_N δ (t + 1) j = ff_sm (fun i => if δ (i / 3) (i % 3) = j then ff_N δ t (i / 3) else 0) (S * 3) := by
  have e1 : ff_N δ (t + 1) j = ff_sm (fun c => ff_lv δ 0 t c * ((if δ (ff_rd δ 0 t c) 0 = j then 1 else 0) + (if δ (ff_rd δ 0 t c) 1 = j then 1 else 0) + (if δ (ff_rd δ 0 t c) 2 = j then 1 else 0))) (3 ^ t) := by
    unfold ff_N
    rw [ff_sm_snoc]
    apply ff_sm_congr
    intro c _
    have key : ∀ l, l < 3 → (if ff_rd δ 0 (t + 1) (c * 3 + l) = j then ff_lv δ 0 (t + 1) (c * 3 + l) else 0) = ff_lv δ 0 t c * (if δ (ff_rd δ 0 t c) l = j then 1 else 0) := by
      intro l hl
      unfold ff_lv
      rw [ff_rd_snoc δ 0 t c l hl]
      by_cases h : δ (ff_rd δ 0 t c) l = j
      · rw [if_pos h, if_pos h, h, if_neg hj]
        by_cases h2 : ff_rd δ 0 t c = 25
        · rw [h2, A.2.2.2 l hl] at h
          exact absurd h.symm hj
        · rw [if_neg h2]
      · rw [if_neg h, if_neg h, Nat.mul_zero]
    have k0 := key 0 (by omega)
    have k1 := key 1 (by omega)
    have k2 := key 2 (by omega)
    rw [Nat.add_zero (c * 3)] at k0
    rw [k0, k1, k2, Nat.mul_add, Nat.mul_add]
  rw [e1, ff_cls (fun c => ff_rd δ 0 t c) (fun c => ff_lv δ 0 t c) (fun s => (if δ s 0 = j then 1 else 0) + (if δ s 1 = j then 1 else 0) + (if δ s 2 = j then 1 else 0)) S (3 ^ t)
    (fun c _ => (ff_rd_in A (Or.inl A.1) t c).imp id (fun h => ff_lv_0 h)), ff_sm_blk]
  apply ff_sm_congr
  intro s _
  rw [ff_sm3]
  show ff_N δ t s * _ = _
  have key : ∀ l, l < 3 → (if δ ((s * 3 + l) / 3) ((s * 3 + l) % 3) = j then ff_N δ t ((s * 3 + l) / 3) else 0) = ff_N δ t s * (if δ s l = j then 1 else 0) := by
    intro l hl
    rw [show (s * 3 + l) / 3 = s by omega, show (s * 3 + l) % 3 = l by omega, ff_ite]
  rw [key 0 (by omega), key 1 (by omega), key 2 (by omega), Nat.mul_add, Nat.mul_add]
def ff_Th (B : Nat → Bool) (b k q m : Nat) : Nat := ff_sm (fun c => ff_sm (fun d => ff_gn B (b + k + m) ((c * 3 ^ k + q) * 3 ^ m + d)) (3 ^ m)) (3 ^ b)
theorem ff_thr {B : Nat → Bool} {S : Nat} {δ : Nat → Nat → Nat} (A : ff_Au S δ) (O : ff_Ok B δ) (b k m : Nat) {q : Nat} (hq : q < 3 ^ k) :
    ff_sm (fun s => ff_N δ b s * ff_W S δ m (ff_rd δ s k q)) S = ff_Th B b k q m := by
  have e := ff_cls (fun c => ff_rd δ 0 b c) (fun c => ff_lv δ 0 b c) (fun s => ff_W S δ m (ff_rd δ s k q)) S (3 ^ b)
    (fun c _ => (ff_rd_in A (Or.inl A.1) b c).imp id (fun h => ff_lv_0 h))
  unfold ff_N
  rw [← e]
  apply ff_sm_congr
  intro c _
  show ff_lv δ 0 b c * ff_W S δ m (ff_rd δ (ff_rd δ 0 b c) k q) = _
  rw [ff_blk A O (b + k) m (c * 3 ^ k + q), ff_rd_app δ 0 b c k q hq]
  by_cases h : ff_rd δ 0 b c = 25
  · have := A.2.1
    rw [h, ff_rd_25 A, ff_W_out (by omega), Nat.mul_zero]
  · rw [ff_lv_1 h, Nat.one_mul]
theorem ff_sm_if (p : Prop) [Decidable p] (f : Nat → Nat) (N : Nat) : ff_sm (fun d => if p then f d else 0) N = if p then ff_sm f N else 0 := by
  by_cases h : p
  · rw [if_pos h]
    exact ff_sm_congr (fun k _ => if_pos h)
  · rw [if_neg h]
    exact ff_sm_0' (fun k _ => if_neg h)
/-- the good words with the piece at one place -/
theorem ff_plc (B : Nat → Bool) (b k i : Nat) {q : Nat} (hq : q < 3 ^ k) :
    ff_sm (fun c => if (c / 3 ^ i) % 3 ^ k = q then ff_gn B (b + k + i) c else 0) (3 ^ (b + k + i)) = ff_Th B b k q i := by
  rw [ff_sm_pow]
  have e1 : ff_sm (fun c => ff_sm (fun d => if (c * 3 ^ i + d) / 3 ^ i % 3 ^ k = q then ff_gn B (b + k + i) (c * 3 ^ i + d) else 0) (3 ^ i)) (3 ^ (b + k)) =
      ff_sm (fun c => if c % 3 ^ k = q then ff_sm (fun d => ff_gn B (b + k + i) (c * 3 ^ i + d)) (3 ^ i) else 0) (3 ^ (b + k)) := by
    apply ff_sm_congr
    intro c _
    rw [← ff_sm_if]
    apply ff_sm_congr
    intro d hd
    have : (c * 3 ^ i + d) / 3 ^ i = c := by
      rw [Nat.mul_comm, Nat.mul_add_div (ff_pos3 i), Nat.div_eq_of_lt hd, Nat.add_zero]
    rw [this]
  rw [e1, ff_sm_pow]
  apply ff_sm_congr
  intro c _
  have e2 : ff_sm (fun d => if (c * 3 ^ k + d) % 3 ^ k = q then ff_sm (fun d_1 => ff_gn B (b + k + i) ((c * 3 ^ k + d) * 3 ^ i + d_1)) (3 ^ i) else 0) (3 ^ k) =
      ff_sm (fun d => if q = d then ff_sm (fun d_1 => ff_gn B (b + k + i) ((c * 3 ^ k + d) * 3 ^ i + d_1)) (3 ^ i) else 0) (3 ^ k) := by
    apply ff_sm_congr
    intro d hd
    have : (c * 3 ^ k + d) % 3 ^ k = d := by
      rw [Nat.mul_comm, Nat.mul_add_mod, Nat.mod_eq_of_lt hd]
    rw [this]
    by_cases h : d = q
    · rw [if_pos h, if_pos h.symm]
    · rw [if_neg h, if_neg (fun z => h z.symm)]
  rw [e2, ff_sm_one (fun d => ff_sm (fun d_1 => ff_gn B (b + k + i) ((c * 3 ^ k + d) * 3 ^ i + d_1)) (3 ^ i)), if_pos hq]
def ff_pl (k q : Nat) : Nat → Nat → Nat
  | 0, _ => 0
  | n + 1, c => (if k ≤ n + 1 ∧ c % 3 ^ k = q then 1 else 0) + ff_pl k q n (c / 3)
theorem ff_sm_fst (f : Nat → Nat) (n : Nat) : ff_sm f (n + 1) = f 0 + ff_sm (fun i => f (i + 1)) n := by
  rw [Nat.add_comm n 1, ff_sm_app]
  have e : ff_sm f 1 = f 0 := by show 0 + f 0 = f 0; omega
  rw [e]
  congr 1
  exact ff_sm_congr (fun k _ => by rw [Nat.add_comm])
theorem ff_pl_sum (k q : Nat) : ∀ n c, ff_pl k q n c = ff_sm (fun i => if k ≤ n - i ∧ (c / 3 ^ i) % 3 ^ k = q then 1 else 0) n := by
  intro n
  induction n with
  | zero => intro c; rfl
  | succ n ih =>
    intro c
    rw [ff_sm_fst]
    show (if k ≤ n + 1 ∧ c % 3 ^ k = q then 1 else 0) + ff_pl k q n (c / 3) = _
    rw [ih, Nat.pow_zero, Nat.div_one, Nat.sub_zero]
    congr 1
    apply ff_sm_congr
    intro i _
    rw [Nat.div_div_eq_div_mul, show 3 * 3 ^ i = 3 ^ (i + 1) by rw [ff_pw, Nat.mul_comm], show n + 1 - (i + 1) = n - i by omega]
theorem ff_sm_rev (f : Nat → Nat) : ∀ N, ff_sm f N = ff_sm (fun i => f (N - 1 - i)) N := by
  intro N
  induction N with
  | zero => rfl
  | succ N ih =>
    rw [ff_sm_fst (fun i => f (N + 1 - 1 - i)), ff_sm_s, ih, Nat.add_comm]
    congr 1
    exact ff_sm_congr (fun k _ => congrArg f (by omega))
theorem ff_stand (B : Nat → Bool) (n k : Nat) {q : Nat} (hk : 1 ≤ k) (hq : q < 3 ^ k) :
    ff_sm (fun c => ff_gn B n c * ff_pl k q n c) (3 ^ n) = ff_sm (fun b => ff_Th B b k q (n - k - b)) (n + 1 - k) := by
  have e1 : ff_sm (fun c => ff_gn B n c * ff_pl k q n c) (3 ^ n) = ff_sm (fun c => ff_sm (fun i => if k ≤ n - i ∧ (c / 3 ^ i) % 3 ^ k = q then ff_gn B n c else 0) n) (3 ^ n) := by
    apply ff_sm_congr
    intro c _
    rw [ff_pl_sum, ← ff_sm_mul]
    exact ff_sm_congr (fun i _ => (ff_ite _ _).symm)
  rw [e1, ff_sm_swap (fun c i => if k ≤ n - i ∧ (c / 3 ^ i) % 3 ^ k = q then ff_gn B n c else 0)]
  have e2 : ff_sm (fun i => ff_sm (fun c => if k ≤ n - i ∧ (c / 3 ^ i) % 3 ^ k = q then ff_gn B n c else 0) (3 ^ n)) n = ff_sm (fun i => if k ≤ n - i then ff_Th B (n - k - i) k q i else 0) n := by
    apply ff_sm_congr
    intro i hi
    by_cases h : k ≤ n - i
    · rw [if_pos h, ← ff_plc B (n - k - i) k i hq, show n - k - i + k + i = n by omega]
      apply ff_sm_congr
      intro c _
      by_cases h2 : (c / 3 ^ i) % 3 ^ k = q
      · rw [if_pos ⟨h, h2⟩, if_pos h2]
      · rw [if_neg (fun z => h2 z.2), if_neg h2]
    · rw [if_neg h]
      exact ff_sm_0' (fun c _ => if_neg (fun z => h z.1))
  rw [e2]
  rcases Nat.lt_or_ge n k with z | z
  · rw [show n + 1 - k = 0 by omega]
    exact ff_sm_0' (fun i _ => if_neg (by omega))
  · have en : n = (n + 1 - k) + (k - 1) := by omega
    have e3 : ff_sm (fun i => if k ≤ n - i then ff_Th B (n - k - i) k q i else 0) n = ff_sm (fun i => if k ≤ n - i then ff_Th B (n - k - i) k q i else 0) ((n + 1 - k) + (k - 1)) := congrArg _ en
    rw [e3, ff_sm_app, ff_sm_0' (N := k - 1) (fun i _ => if_neg (by omega)), Nat.add_zero, ff_sm_rev (fun b => ff_Th B b k q (n - k - b))]
    apply ff_sm_congr
    intro i hi
    rw [if_pos (by omega), show n + 1 - k - 1 - i = n - k - i by omega, show n - k - (n - k - i) = i by omega]
/-! counts by state and letters 0 -/
def ff_zs : Nat → Nat → Nat
  | 0, _ => 0
  | n + 1, c => ff_zs n (c / 3) + (if c % 3 = 0 then 1 else 0)
theorem ff_zs_s (n c : Nat) : ff_zs (n + 1) c = ff_zs n (c / 3) + (if c % 3 = 0 then 1 else 0) := rfl
theorem ff_zs_le : ∀ n c, ff_zs n c ≤ n := by
  intro n
  induction n with
  | zero => intro c; exact Nat.le_refl _
  | succ n ih =>
    intro c
    rw [ff_zs_s]
    have := ih (c / 3)
    split <;> omega
def ff_T (δ : Nat → Nat → Nat) (t i : Nat) : Nat := ff_sm (fun c => if 10 * ff_rd δ 0 t c + ff_zs t c = i then ff_lv δ 0 t c else 0) (3 ^ t)
theorem ff_T_0 (δ : Nat → Nat → Nat) (s : Nat) : ff_T δ 0 s = if s = 0 then 1 else 0 := by
  show 0 + (if 0 = s then (if 0 = 25 then 0 else 1) else 0) = _
  by_cases h : s = 0
  · subst h; rfl
  · rw [if_neg (fun z => h z.symm), if_neg h]
def ff_z0 (l : Nat) : Nat := if l = 0 then 1 else 0
theorem ff_z0_le (l : Nat) : ff_z0 l ≤ 1 := by unfold ff_z0; split <;> omega
def ff_sp (δ : Nat → Nat → Nat) (j i l : Nat) : Nat := if δ (i / 10) l ≠ 25 ∧ i % 10 + ff_z0 l < 10 ∧ 10 * δ (i / 10) l + (i % 10 + ff_z0 l) = j then 1 else 0
theorem ff_T_s {S : Nat} {δ : Nat → Nat → Nat} (A : ff_Au S δ) {t : Nat} (ht : t < 9) (j : Nat) :
    ff_T δ (t + 1) j = ff_sm (fun i => ff_T δ t i * ff_sm (fun l => ff_sp δ j i l) 3) (10 * S) := by
  have e1 : ff_T δ (t + 1) j = ff_sm (fun c => ff_lv δ 0 t c * ff_sm (fun l => ff_sp δ j (10 * ff_rd δ 0 t c + ff_zs t c) l) 3) (3 ^ t) := by
    unfold ff_T
    rw [ff_sm_snoc]
    apply ff_sm_congr
    intro c _
    have hz := ff_zs_le t c
    have key : ∀ l, l < 3 → (if 10 * ff_rd δ 0 (t + 1) (c * 3 + l) + ff_zs (t + 1) (c * 3 + l) = j then ff_lv δ 0 (t + 1) (c * 3 + l) else 0) = ff_lv δ 0 t c * ff_sp δ j (10 * ff_rd δ 0 t c + ff_zs t c) l := by
      intro l hl
      have hz0 := ff_z0_le l
      have ez : ff_zs (t + 1) (c * 3 + l) = ff_zs t c + ff_z0 l := by
        rw [ff_zs_s, show (c * 3 + l) / 3 = c by omega, show (c * 3 + l) % 3 = l by omega]
        rfl
      unfold ff_lv ff_sp
      rw [ez, ff_rd_snoc δ 0 t c l hl, show (10 * ff_rd δ 0 t c + ff_zs t c) / 10 = ff_rd δ 0 t c by omega, show (10 * ff_rd δ 0 t c + ff_zs t c) % 10 = ff_zs t c by omega]
      by_cases h2 : ff_rd δ 0 t c = 25
      · rw [h2, A.2.2.2 l hl, if_pos rfl, Nat.zero_mul]
        split <;> rfl
      · rw [if_neg h2, Nat.one_mul]
        by_cases h3 : δ (ff_rd δ 0 t c) l = 25
        · rw [if_pos h3, if_neg (c := δ (ff_rd δ 0 t c) l ≠ 25 ∧ _) (fun z => z.1 h3)]
          split <;> rfl
        · rw [if_neg h3]
          by_cases h4 : 10 * δ (ff_rd δ 0 t c) l + (ff_zs t c + ff_z0 l) = j
          · rw [if_pos h4, if_pos ⟨h3, by omega, h4⟩]
          · rw [if_neg h4, if_neg (fun z => h4 z.2.2)]
    have k0 := key 0 (by omega)
    have k1 := key 1 (by omega)
    have k2 := key 2 (by omega)
    rw [Nat.add_zero (c * 3)] at k0
    rw [k0, k1, k2, ff_sm3, Nat.mul_add, Nat.mul_add]
  rw [e1, ff_cls (fun c => 10 * ff_rd δ 0 t c + ff_zs t c) (fun c => ff_lv δ 0 t c) (fun i => ff_sm (fun l => ff_sp δ j i l) 3) (10 * S) (3 ^ t) ?_]
  · rfl
  · intro c _
    have hz := ff_zs_le t c
    rcases ff_rd_in A (Or.inl A.1) t c with h | h
    · exact Or.inl (by omega)
    · exact Or.inr (ff_lv_0 h)
theorem ff_T_sum {B : Nat → Bool} {S : Nat} {δ : Nat → Nat → Nat} (A : ff_Au S δ) (O : ff_Ok B δ) {n k : Nat} (hn : n ≤ 9) (hk : k ≤ 9) :
    ff_sm (fun s => ff_T δ n (10 * s + k)) S = ff_sm (fun c => if ff_zs n c = k then ff_gn B n c else 0) (3 ^ n) := by
  unfold ff_T
  rw [ff_sm_swap (fun s c => if 10 * ff_rd δ 0 n c + ff_zs n c = 10 * s + k then ff_lv δ 0 n c else 0)]
  apply ff_sm_congr
  intro c _
  have hz := ff_zs_le n c
  have e : ff_sm (fun s => if 10 * ff_rd δ 0 n c + ff_zs n c = 10 * s + k then ff_lv δ 0 n c else 0) S = ff_sm (fun s => if ff_rd δ 0 n c = s then (if ff_zs n c = k then ff_gn B n c else 0) else 0) S := by
    apply ff_sm_congr
    intro s _
    rw [ff_lv_gn O]
    by_cases h1 : ff_rd δ 0 n c = s
    · rw [if_pos h1]
      by_cases h2 : ff_zs n c = k
      · rw [if_pos h2, if_pos (by omega)]
      · rw [if_neg h2, if_neg (by omega)]
    · rw [if_neg h1, if_neg (by omega)]
  rw [e, ff_sm_one (fun s => if ff_zs n c = k then ff_gn B n c else 0)]
  rcases ff_rd_in A (Or.inl A.1) n c with h | h
  · rw [if_pos h]
  · have := A.2.1
    rw [if_neg (by omega), ← ff_lv_gn O, ff_lv_0 h]
    split <;> rfl
end
section
/-! the reference's count by the last three letters -/
def ff_Nw (B : Nat → Bool) (n k : Nat) : Nat := ff_sm (fun c => if c % 27 = k then ff_gn B n c else 0) (3 ^ n)
theorem ff_Nw_3 (B : Nat → Bool) {k : Nat} (hk : k < 27) : ff_Nw B 3 k = ff_gn B 3 k := by
  have e : ff_Nw B 3 k = ff_sm (fun c => if k = c then ff_gn B 3 c else 0) 27 := by
    apply ff_sm_congr
    intro c hc
    have hc2 : c < 27 := hc
    rw [Nat.mod_eq_of_lt hc2]
    by_cases h : c = k
    · rw [if_pos h, if_pos h.symm]
    · rw [if_neg h, if_neg (fun z => h z.symm)]
  rw [e, ff_sm_one, if_pos hk]
theorem ff_E_4 (B : Nat → Bool) {n x y : Nat} (hn : 3 < n) (h : x % 81 = y % 81) : ff_E B n x = ff_E B 4 y := by
  apply Bool.eq_iff_iff.mpr
  rw [ff_E_iff, ff_E_iff, show x % 3 = y % 3 by omega, show x % 9 = y % 9 by omega, show x % 27 = y % 27 by omega, h]
  constructor
  · rintro ⟨a, b, c, d⟩
    exact ⟨a, fun _ => b (by omega), fun _ => c (by omega), fun _ => d (by omega)⟩
  · rintro ⟨a, b, c, d⟩
    exact ⟨a, fun _ => b (by omega), fun _ => c (by omega), fun _ => d (by omega)⟩
theorem ff_gd_3 (B : Nat → Bool) {n c : Nat} (h : ff_gd B (n + 3) c = true) : ff_gd B 3 (c % 27) = true := by
  rw [ff_gd_s, Bool.and_eq_true, ff_gd_s, Bool.and_eq_true, ff_gd_s, Bool.and_eq_true, ff_E_iff, ff_E_iff, ff_E_iff] at h
  obtain ⟨⟨a1, a2, a3, _⟩, ⟨b1, b2, _⟩, ⟨c1, _⟩, _⟩ := h
  rw [ff_gd_s, Bool.and_eq_true, ff_gd_s, Bool.and_eq_true, ff_gd_s, Bool.and_eq_true, ff_E_iff, ff_E_iff, ff_E_iff]
  refine ⟨⟨?_, fun _ => ?_, fun _ => ?_, fun z => absurd z (by omega)⟩, ⟨?_, fun _ => ?_, fun z => absurd z (by omega), fun z => absurd z (by omega)⟩, ⟨?_, fun z => absurd z (by omega), fun z => absurd z (by omega), fun z => absurd z (by omega)⟩, rfl⟩
  · rw [show c % 27 % 3 = c % 3 by omega]; exact a1
  · rw [show c % 27 % 9 = c % 9 by omega]; exact a2 (by omega)
  · rw [show c % 27 % 27 = c % 27 by omega]; exact a3 (by omega)
  · rw [show c % 27 / 3 % 3 = c / 3 % 3 by omega]; exact b1
  · rw [show c % 27 / 3 % 9 = c / 3 % 9 by omega]; exact b2 (by omega)
  · rw [show c % 27 / 3 / 3 % 3 = c / 3 / 3 % 3 by omega]; exact c1
theorem ff_gd_g (B : Nat → Bool) {n c l : Nat} (hn : 3 ≤ n) (hl : l < 3) : ff_gn B (n + 1) (c * 3 + l) = ff_gn B n c * (if ff_gd B 4 (3 * (c % 27) + l) = true then 1 else 0) := by
  cases h : ff_gd B n c with
  | false =>
    rw [ff_gn_f h, Nat.zero_mul]
    apply ff_gn_f
    rw [ff_gd_s, show (c * 3 + l) / 3 = c by omega, h, Bool.and_false]
  | true =>
    rw [ff_gn_t h, Nat.one_mul]
    unfold ff_gn
    have h3 : ff_gd B 3 (c % 27) = true := by
      obtain ⟨m, rfl⟩ : ∃ m, n = m + 3 := ⟨n - 3, by omega⟩
      exact ff_gd_3 B h
    rw [ff_gd_s, show (c * 3 + l) / 3 = c by omega, h, Bool.and_true, ff_gd_s B 3, show (3 * (c % 27) + l) / 3 = c % 27 by omega, h3, Bool.and_true,
      ff_E_4 B (n := n + 1) (x := c * 3 + l) (y := 3 * (c % 27) + l) (by omega) (by omega)]
def ff_gw (B : Nat → Bool) (j i l : Nat) : Nat := if ff_gd B 4 (3 * i + l) = true ∧ (3 * i + l) % 27 = j then 1 else 0
theorem ff_Nw_s (B : Nat → Bool) {n : Nat} (hn : 3 ≤ n) (j : Nat) : ff_Nw B (n + 1) j = ff_sm (fun i => ff_Nw B n i * ff_sm (fun l => ff_gw B j i l) 3) 27 := by
  have e1 : ff_Nw B (n + 1) j = ff_sm (fun c => ff_gn B n c * ff_sm (fun l => ff_gw B j (c % 27) l) 3) (3 ^ n) := by
    unfold ff_Nw
    rw [ff_sm_snoc]
    apply ff_sm_congr
    intro c _
    have key : ∀ l, l < 3 → (if (c * 3 + l) % 27 = j then ff_gn B (n + 1) (c * 3 + l) else 0) = ff_gn B n c * ff_gw B j (c % 27) l := by
      intro l hl
      rw [ff_gd_g B hn hl]
      unfold ff_gw
      rw [show (c * 3 + l) % 27 = (3 * (c % 27) + l) % 27 by omega]
      by_cases h1 : (3 * (c % 27) + l) % 27 = j
      · rw [if_pos h1]
        by_cases h2 : ff_gd B 4 (3 * (c % 27) + l) = true
        · rw [if_pos h2, if_pos ⟨h2, h1⟩]
        · rw [if_neg h2, if_neg (fun z => h2 z.1)]
      · rw [if_neg h1, if_neg (fun z => h1 z.2), Nat.mul_zero]
    have k0 := key 0 (by omega)
    have k1 := key 1 (by omega)
    have k2 := key 2 (by omega)
    rw [Nat.add_zero (c * 3)] at k0
    rw [k0, k1, k2, ff_sm3, Nat.mul_add, Nat.mul_add]
  rw [e1, ff_cls (fun c => c % 27) (fun c => ff_gn B n c) (fun i => ff_sm (fun l => ff_gw B j i l) 3) 27 (3 ^ n) (fun c _ => Or.inl (Nat.mod_lt _ (by omega)))]
  rfl
theorem ff_Nw_sum (B : Nat → Bool) (n : Nat) : ff_sm (fun k => ff_Nw B n k) 27 = ff_G B n := by
  unfold ff_Nw
  rw [ff_sm_swap (fun k c => if c % 27 = k then ff_gn B n c else 0)]
  apply ff_sm_congr
  intro c _
  rw [ff_sm_one (fun _ => ff_gn B n c), if_pos (Nat.mod_lt _ (by omega))]
/-! words that read the same backward -/
def ff_bw : Nat → Nat → Nat
  | 0, _ => 0
  | i + 1, c => 3 * ff_bw i c + c / 3 ^ i % 3
theorem ff_bw_s (i c : Nat) : ff_bw (i + 1) c = 3 * ff_bw i c + c / 3 ^ i % 3 := rfl
theorem ff_bw_lt : ∀ i c, ff_bw i c < 3 ^ i := by
  intro i
  induction i with
  | zero => intro c; exact Nat.zero_lt_one
  | succ i ih =>
    intro c
    have := ih c
    rw [ff_bw_s, ff_pw]
    omega
theorem ff_bw_lo (x y b : Nat) : ∀ i, i ≤ b → ff_bw i (x * 3 ^ b + y) = ff_bw i y := by
  intro i
  induction i with
  | zero => intro _; rfl
  | succ i ih =>
    intro hi
    rw [ff_bw_s, ff_bw_s, ih (by omega)]
    congr 1
    obtain ⟨e, rfl⟩ : ∃ e, b = e + 1 + i := ⟨b - 1 - i, by omega⟩
    have : x * 3 ^ (e + 1 + i) = 3 ^ i * (x * 3 ^ e * 3) := by
      rw [Nat.pow_add, ff_pw, Nat.mul_comm (3 ^ i), Nat.mul_assoc, Nat.mul_assoc, Nat.mul_assoc]
    rw [this, Nat.mul_add_div (ff_pos3 i)]
    omega
theorem ff_bw_app (x y b : Nat) (hy : y < 3 ^ b) : ∀ a, ff_bw (b + a) (x * 3 ^ b + y) = ff_bw b y * 3 ^ a + ff_bw a x := by
  intro a
  induction a with
  | zero =>
    rw [Nat.pow_zero, Nat.mul_one]
    exact ff_bw_lo x y b b (Nat.le_refl b)
  | succ a ih =>
    show 3 * ff_bw (b + a) (x * 3 ^ b + y) + (x * 3 ^ b + y) / 3 ^ (b + a) % 3 = _
    have e : (x * 3 ^ b + y) / 3 ^ (b + a) = x / 3 ^ a := by
      rw [Nat.pow_add, ← Nat.div_div_eq_div_mul, Nat.mul_comm x, Nat.mul_add_div (ff_pos3 b), Nat.div_eq_of_lt hy, Nat.add_zero]
    rw [e, ih, ff_bw_s, ff_pw, ← Nat.mul_assoc, Nat.mul_add]
    omega
theorem ff_bw_in : ∀ m d, d < 3 ^ m → ff_bw m (ff_bw m d) = d := by
  intro m
  induction m with
  | zero => intro d hd; have : 3 ^ 0 = 1 := rfl; show 0 = d; omega
  | succ m ih =>
    intro d hd
    rw [ff_pw] at hd
    have e1 : ff_bw (1 + m) (d / 3 * 3 ^ 1 + d % 3) = ff_bw 1 (d % 3) * 3 ^ m + ff_bw m (d / 3) := ff_bw_app (d / 3) (d % 3) 1 (by omega) m
    have e2 : d / 3 * 3 ^ 1 + d % 3 = d := by rw [Nat.pow_one]; omega
    have e3 : ff_bw 1 (d % 3) = d % 3 := by show 3 * 0 + d % 3 / 3 ^ 0 % 3 = d % 3; rw [Nat.pow_zero, Nat.div_one]; omega
    rw [e2, e3, Nat.add_comm 1 m] at e1
    rw [e1, ff_bw_app (d % 3) (ff_bw m (d / 3)) m (ff_bw_lt _ _) 1, ih (d / 3) (by omega)]
    have e4 : ff_bw 1 (d % 3) = d % 3 := e3
    rw [e4, Nat.pow_one]
    omega
theorem ff_dm {a b x y p : Nat} (ha : a < p) (hb : b < p) (h : x * p + a = y * p + b) : x = y ∧ a = b := by
  have hp : 0 < p := by omega
  have e1 : (x * p + a) / p = x := by rw [Nat.mul_comm, Nat.mul_add_div hp, Nat.div_eq_of_lt ha, Nat.add_zero]
  have e2 : (y * p + b) / p = y := by rw [Nat.mul_comm, Nat.mul_add_div hp, Nat.div_eq_of_lt hb, Nat.add_zero]
  have e3 : x = y := by rw [← e1, ← e2, h]
  subst e3
  exact ⟨rfl, by omega⟩
/-- what is turned around: the first half, without the middle letter -/
def ff_rs (n q : Nat) : Nat := if n % 2 = 1 then q / 3 else q
theorem ff_pal (h m q d : Nat) (hh : h = m ∨ h = m + 1) (hq : q < 3 ^ h) (hd : d < 3 ^ m) :
    ff_bw (h + m) (q * 3 ^ m + d) = q * 3 ^ m + d ↔ ff_bw m (ff_rs (h + m) q) = d := by
  have e0 : ff_bw (h + m) (q * 3 ^ m + d) = ff_bw m d * 3 ^ h + ff_bw h q := by
    rw [Nat.add_comm h m]; exact ff_bw_app q d m hd h
  rw [e0]
  rcases hh with rfl | rfl
  · have er : ff_rs (h + h) q = q := if_neg (by omega)
    rw [er]
    constructor
    · intro z
      exact (ff_dm (ff_bw_lt _ _) hd z).2
    · intro z
      rw [← z, ff_bw_in h q hq]
  · have er : ff_rs (m + 1 + m) q = q / 3 := if_pos (by omega)
    rw [er]
    have e1 : ff_bw (1 + m) (q / 3 * 3 ^ 1 + q % 3) = ff_bw 1 (q % 3) * 3 ^ m + ff_bw m (q / 3) := ff_bw_app (q / 3) (q % 3) 1 (by omega) m
    have e2 : q / 3 * 3 ^ 1 + q % 3 = q := by rw [Nat.pow_one]; omega
    have e3 : ff_bw 1 (q % 3) = q % 3 := by show 3 * 0 + q % 3 / 3 ^ 0 % 3 = q % 3; rw [Nat.pow_zero, Nat.div_one]; omega
    rw [e2, e3, Nat.add_comm 1 m] at e1
    rw [e1]
    have e4 : ff_bw m d * 3 ^ (m + 1) + (q % 3 * 3 ^ m + ff_bw m (q / 3)) = (ff_bw m d * 3 + q % 3) * 3 ^ m + ff_bw m (q / 3) := by
      rw [ff_pw, Nat.mul_comm (3 ^ m) 3, ← Nat.mul_assoc, Nat.add_mul, Nat.add_assoc]
    rw [e4]
    rw [ff_pw] at hq
    constructor
    · intro z
      exact (ff_dm (ff_bw_lt _ _) hd z).2
    · intro z
      rw [← z, ff_bw_in m (q / 3) (by omega), show q / 3 * 3 + q % 3 = q by omega]
theorem ff_mir (B : Nat → Bool) (h m : Nat) (hh : h = m ∨ h = m + 1) :
    ff_sm (fun q => ff_gn B h q * ff_gn B (h + m) (q * 3 ^ m + ff_bw m (ff_rs (h + m) q))) (3 ^ h) = ff_sm (fun c => if ff_bw (h + m) c = c then ff_gn B (h + m) c else 0) (3 ^ (h + m)) := by
  rw [ff_sm_pow]
  apply ff_sm_congr
  intro q hq
  have e : ff_sm (fun d => if ff_bw (h + m) (q * 3 ^ m + d) = q * 3 ^ m + d then ff_gn B (h + m) (q * 3 ^ m + d) else 0) (3 ^ m) =
      ff_sm (fun d => if ff_bw m (ff_rs (h + m) q) = d then ff_gn B (h + m) (q * 3 ^ m + d) else 0) (3 ^ m) := by
    apply ff_sm_congr
    intro d hd
    have p := ff_pal h m q d hh hq hd
    by_cases z : ff_bw m (ff_rs (h + m) q) = d
    · rw [if_pos z, if_pos (p.mpr z)]
    · rw [if_neg z, if_neg (fun y => z (p.mp y))]
  rw [e, ff_sm_one (fun d => ff_gn B (h + m) (q * 3 ^ m + d)), if_pos (ff_bw_lt _ _), ff_gn_pre B h q m _ (ff_bw_lt _ _)]
/-- the half words up to rank i -/
def ff_M (B : Nat → Bool) (h : Nat) (f : Nat → Nat) (i : Nat) : Nat := ff_sm (fun q => if ff_R B h q < i then ff_gn B h q * f q else 0) (3 ^ h)
theorem ff_M_0 (B : Nat → Bool) (h : Nat) (f : Nat → Nat) : ff_M B h f 0 = 0 := ff_sm_0' (fun q _ => if_neg (by omega))
theorem ff_M_s (B : Nat → Bool) (h : Nat) (f : Nat → Nat) {i q : Nat} (hq : ff_un B h i q) : ff_M B h f (i + 1) = ff_M B h f i + f q := by
  have e : ff_M B h f (i + 1) = ff_sm (fun x => (if ff_R B h x < i then ff_gn B h x * f x else 0) + (if q = x then f x else 0)) (3 ^ h) := by
    apply ff_sm_congr
    intro x hx
    cases hg : ff_gd B h x with
    | false =>
      have hne : q ≠ x := by
        intro z
        subst z
        rw [hq.2.1] at hg
        cases hg
      rw [ff_gn_f hg, Nat.zero_mul, if_neg hne]
      split <;> split <;> rfl
    | true =>
      rw [ff_gn_t hg, Nat.one_mul]
      by_cases h1 : q = x
      · subst h1
        rw [if_pos rfl, hq.2.2, if_pos (by omega), if_neg (by omega), Nat.zero_add]
      · have h2 : ff_R B h x ≠ i := fun z => h1 (ff_un_u hq ⟨hx, hg, z⟩)
        rw [if_neg h1]
        by_cases h3 : ff_R B h x < i
        · rw [if_pos h3, if_pos (by omega), Nat.add_zero (f x)]
        · rw [if_neg h3, if_neg (by omega)]
  rw [e, ff_sm_add, ff_sm_one f, if_pos hq.1]
  rfl
theorem ff_M_G (B : Nat → Bool) (h : Nat) (f : Nat → Nat) : ff_M B h f (ff_G B h) = ff_sm (fun q => ff_gn B h q * f q) (3 ^ h) := by
  apply ff_sm_congr
  intro x hx
  cases hg : ff_gd B h x with
  | false => rw [ff_gn_f hg, Nat.zero_mul]; split <;> rfl
  | true => rw [if_pos (ff_un_G ⟨hx, hg, rfl⟩)]
end
section
/-! the component's small helpers -/
def ff_sz (q : Nat) : Nat := if q < 6 then 1 else if q < 18 then 2 else if q < 54 then 3 else 4
def ff_pc (q : Nat) : Prop := 3 ^ ff_sz q ≤ q ∧ q < 2 * 3 ^ ff_sz q
theorem ff_sz_in (q : Nat) : 1 ≤ ff_sz q ∧ ff_sz q ≤ 4 := by unfold ff_sz; split <;> (try split) <;> (try split) <;> omega
theorem ff_sz81 (q : Nat) : 3 ^ ff_sz q ≤ 81 := ff_le3 (ff_sz_in q).2
theorem ff_pc_162 {q : Nat} (h : ff_pc q) : q < 162 := by
  have := ff_sz81 q
  have := h.2
  omega
theorem ff_pc_q {q : Nat} (h : ff_pc q) : q - 3 ^ ff_sz q < 3 ^ ff_sz q := by
  have := h.1
  have := h.2
  omega
theorem ff_pc_e {q : Nat} (h : ff_pc q) : 3 ^ ff_sz q + (q - 3 ^ ff_sz q) = q := by
  have := h.1
  omega
theorem ff_xpow {post : Int32 → Prop} {n : Nat} (hn : n ≤ 10) (h : post (nI (3 ^ n))) : wpX_power post (nI n) :=
  ff_upE (fun m k => wX_power_4 post (nI n) m (nI (3 ^ k)) (nI k)) (fun _ => True) n 0 (Nat.zero_le n) trivial
    (fun m _ => br_t (nI_le (Nat.le_refl n) (by omega)) h)
    (fun m k hk _ ih => br_f (nI_ge hk (by omega)) (nm_r (pk_mul (3 ^ k) 3) (nm_r (nI_1 k) (ih trivial))))
theorem ff_xsz {post : Int32 → Prop} {q : Nat} (hq : q < 2 ^ 31) (h : post (nI (ff_sz q))) : wpX_sizeOf post (nI q) := by
  refine ⟨4, br_f (by decide) (ff_xpow (n := 1) (by decide) (pk_lt q 6 (fun z => ?_) (fun z => nm_r (e' := 2) (by decide) (br_f (by decide) (ff_xpow (n := 2) (by decide) (pk_lt q 18 (fun z2 => ?_) (fun z2 => nm_r (e' := 3) (by decide) (br_f (by decide) (ff_xpow (n := 3) (by decide) (pk_lt q 54 (fun z3 => ?_) (fun z3 => nm_r (e' := 4) (by decide) (br_t (by decide) ?_)) rfl (by decide))))) rfl (by decide))))) rfl (by decide)))⟩
  · rw [show ff_sz q = 1 from if_pos z] at h
    exact h
  · rw [show ff_sz q = 2 by unfold ff_sz; rw [if_neg (by omega), if_pos z2]] at h
    exact h
  · rw [show ff_sz q = 3 by unfold ff_sz; rw [if_neg (by omega), if_neg (by omega), if_pos z3]] at h
    exact h
  · rw [show ff_sz q = 4 by unfold ff_sz; rw [if_neg (by omega), if_neg (by omega), if_neg (by omega)]] at h
    exact h
theorem ff_xpc {post : Int32 → Prop} {q : Nat} (hq : q < 2 ^ 31) (h1 : ff_pc q → post 1) (h0 : ¬ ff_pc q → post 0) : wpX_isPiece post (nI q) := by
  have hs := ff_sz_in q
  have h81 := ff_sz81 q
  unfold wpX_isPiece
  refine ff_xsz hq (ff_xpow (by omega) (pk_lt q (3 ^ ff_sz q) (fun z => h0 (fun y => ?_)) (fun z => ff_xpow (by omega) (pk_le (2 * 3 ^ ff_sz q) q (fun y => h0 (fun y2 => ?_)) (fun y => h1 ⟨z, y⟩) (pk_mul 2 _) rfl))))
  · have := y.1
    omega
  · have := y2.2
    omega
theorem ff_xpcn {post : Int32 → Prop} {p : Int32} (hp : p < 0) (h : post 0) : wpX_isPiece post p := by
  unfold wpX_isPiece
  refine ⟨1, br_f (by decide) (ff_xpow (n := 1) (by decide) (br_t (Int32.lt_trans hp (by decide)) ?_))⟩
  exact ff_xpow (n := 1) (by decide) (br_t (Int32.lt_trans hp (by decide)) h)
/-- a length: refused, or 0 .. 9 -/
theorem ff_len (x : Int32) : (x < 0 ∨ (¬ x < 0 ∧ 9 < x)) ∨ ∃ n : Nat, n ≤ 9 ∧ x = nI n := by
  by_cases h : x < 0
  · exact Or.inl (Or.inl h)
  · obtain ⟨j, hj, rfl⟩ := nI_of h
    by_cases h2 : j ≤ 9
    · exact Or.inr ⟨j, h2, rfl⟩
    · exact Or.inl (Or.inr ⟨h, nI_lt (a := 9) (by omega) hj⟩)
theorem ff_xlen0 {post : Int32 → Prop} {x : Int32} (hx : x < 0 ∨ (¬ x < 0 ∧ 9 < x)) (h : post 0) : wpX_isLength post x := by
  unfold wpX_isLength
  rcases hx with z | ⟨z, y⟩
  · exact br_t z h
  · exact br_f z (br_t y h)
theorem ff_xlen1 {post : Int32 → Prop} {n : Nat} (hn : n ≤ 9) (h : post 1) : wpX_isLength post (nI n) := by
  unfold wpX_isLength
  exact br_f (nI_pos (by omega)) (br_f (nI_nlt (b := n) (a := 9) hn (by decide)) h)
section
variable {fc fs fb : Int32} {li kn st : Nat → Int32} {wy nw th : Nat → Int64} {tb fr : Nat → Int32}
theorem ff_xplc {post : Int32 → Prop} {c : Nat} {p : Int32} (hc : c ≤ 6) (hf : ∀ i, i < c → li i = p → (∀ j, j < i → li j ≠ p) → post (nI i)) (hn : (∀ i, i < c → li i ≠ p) → post (-1)) :
    wpX_place post (nI c, fs, fb, li, kn, st, wy, nw, th, tb, fr) p :=
  ff_upE (fun m i => wX_place_2 post p (nI c) fs fb li kn st wy nw th tb fr m (nI i)) (fun i => ∀ j, j < i → li j ≠ p) c 0 (Nat.zero_le c) (lt_0 (p := fun j => li j ≠ p))
    (fun m hI => br_t (nI_le (Nat.le_refl c) (by omega)) (hn hI))
    (fun m i hi hI ih => br_f (nI_ge hi (by omega)) (And.intro (vp_in_nI (by omega) (by omega)) (by
      rw [nI_clamp (by omega)]
      exact br_c (fun e => hf i hi e hI) (fun e => nm_r (nI_1 i) (ih (lt_s (p := fun j => li j ≠ p) hI e))))))
theorem ff_xsto {post : Int32 → Prop} {c : Nat} {p : Int32} (hc : c ≤ 25) (hf : ∀ i, i < c → kn i = p → post (nI i)) (hn : (∀ i, i < c → kn i ≠ p) → post (-1)) :
    wpX_stateOf post (fc, nI c, fb, li, kn, st, wy, nw, th, tb, fr) p :=
  ff_upE (fun m i => wX_stateOf_2 post p fc (nI c) fb li kn st wy nw th tb fr m (nI i)) (fun i => ∀ j, j < i → kn j ≠ p) c 0 (Nat.zero_le c) (lt_0 (p := fun j => kn j ≠ p))
    (fun m hI => br_t (nI_le (Nat.le_refl c) (by omega)) (hn hI))
    (fun m i hi hI ih => br_f (nI_ge hi (by omega)) (And.intro (vp_in_nI (by omega) (by omega)) (by
      rw [nI_clamp (by omega)]
      exact br_c (fun e => hf i hi e) (fun e => nm_r (nI_1 i) (ih (lt_s (p := fun j => kn j ≠ p) hI e))))))
theorem ff_refu {post : Int32 → Prop} {x y : Int32} (hx : x < 0 ∨ (¬ x < 0 ∧ 9 < x)) (h : post (-1)) : wpX_refused post x y := by
  unfold wpX_refused
  exact ff_xlen0 hx (br_t rfl h)
theorem ff_refc {post : Int32 → Prop} {n : Nat} {y : Int32} (hn : n ≤ 9) (h0 : ∀ c, c < 3 ^ n → y = nI c → post 0) (h2 : (y < 0 ∨ (¬ y < 0 ∧ ¬ y < nI (3 ^ n))) → post (-2)) : wpX_refused post (nI n) y := by
  unfold wpX_refused
  refine ff_xlen1 hn (br_f (by decide) (br_c (fun z => h2 (Or.inl z)) (fun z => ff_xpow (by omega) (br_c (fun w => ?_) (fun w => h2 (Or.inr ⟨z, w⟩))))))
  have h9 := ff_le9 hn
  obtain ⟨j, hj, rfl⟩ := nI_of z
  rw [nI_ltI hj (by omega)] at w
  exact h0 j w rfl
end
end
section
/-! the component's search for a target -/
theorem ff_end {a x : Nat} (ha : 0 < a) (hx : x < 2 ^ 31) (ha2 : a < 2 ^ 31) : nI a + (nI x - nI x / nI a * nI a) = nI (a + x % a) := by
  rw [pk_rem hx ha ha2, nI_add]
theorem ff_pw4 {i : Nat} (h : i ≤ 5) : 3 ^ i ≤ 243 := ff_le3 h
section
variable {fc fs fb : Int32} {li kn st : Nat → Int32} {wy nw th : Nat → Int64} {tb fr : Nat → Int32}
theorem ff_xt90 {post : Int32 → Prop} {c S z x : Nat} (hS : 0 < S) (hS2 : S ≤ 25) (h0 : kn 0 = nI 1) (hz4 : z ≤ 4) (hx : x < 2 ^ 31)
    (hP : ∀ i, 1 ≤ i → i ≤ z → ¬ ff_P c li (ff_sf i x)) (h : ∀ r, ff_tg (ff_P c li) kn S z x r → post (nI r)) :
    ∃ n, wX_target_90 post (nI z) (nI x) fc (nI S) fb li kn st wy nw th tb fr n 0 :=
  ff_upE (fun m k => wX_target_90 post (nI z) (nI x) fc (nI S) fb li kn st wy nw th tb fr m (nI k)) (fun k => ∀ i, z < i + k → i ≤ z → ∀ t, t < S → kn t ≠ nI (ff_sf i x)) z 0 (Nat.zero_le z) (fun i h1 h2 => by omega)
    (fun m hI => br_t (nI_le (Nat.le_refl z) (by omega)) (h 0 (Or.inr ⟨hP, hS, 0, Nat.zero_le z, by rw [ff_sf_0]; exact h0, fun j hj hjz t ht => hI j (by omega) hjz t ht⟩)))
    (fun m k hk hI ih => br_f (nI_ge hk (by omega)) (by
      have hp := ff_pw4 (i := z - k) (by omega)
      have hp0 := ff_pos3 (z - k)
      rw [pk_sub (by omega : k ≤ z)]
      refine ff_xpow (by omega) (ff_xpow (by omega) (And.intro (nI_ne0 hp0 (by omega)) (nm_r (ff_end hp0 hx (by omega)) (ff_xsto hS2 (fun i hi e => br_f (nI_pos (by omega)) (h i (Or.inr ⟨hP, hi, z - k, by omega, e, fun j hj hjz t ht => hI j (by omega) hjz t ht⟩))) (fun hne => br_t (by decide) (nm_r (nI_1 k) (ih ?_)))))))
      intro i h1 h2 t ht
      by_cases e : i = z - k
      · subst e; exact hne t ht
      · exact hI i (by omega) h2 t ht))
theorem ff_xt44 {post : Int32 → Prop} {c S z x : Nat} (hc : c ≤ 6) (hS : 0 < S) (hS2 : S ≤ 25) (h0 : kn 0 = nI 1) (hz4 : z ≤ 4) (hx : x < 2 ^ 31)
    (h : ∀ r, ff_tg (ff_P c li) kn S z x r → post (nI r)) :
    ∃ n, wX_target_44 post (nI z) (nI x) (nI c) (nI S) fb li kn st wy nw th tb fr n 0 :=
  ff_upE (fun m k => wX_target_44 post (nI z) (nI x) (nI c) (nI S) fb li kn st wy nw th tb fr m (nI k)) (fun k => ∀ i, z < i + k → i ≤ z → ¬ ff_P c li (ff_sf i x)) z 0 (Nat.zero_le z) (fun i h1 h2 => by omega)
    (fun m hI => br_t (nI_le (Nat.le_refl z) (by omega)) (ff_xt90 hS hS2 h0 hz4 hx (fun i h1 h2 => hI i (by omega) h2) h))
    (fun m k hk hI ih => br_f (nI_ge hk (by omega)) (by
      have hp := ff_pw4 (i := z - k) (by omega)
      have hp0 := ff_pos3 (z - k)
      rw [pk_sub (by omega : k ≤ z)]
      refine ff_xpow (by omega) (ff_xpow (by omega) (And.intro (nI_ne0 hp0 (by omega)) (nm_r (ff_end hp0 hx (by omega)) (ff_xplc hc (fun i hi e _ => br_f (nI_pos (by omega)) (h 25 (Or.inl ⟨rfl, z - k, by omega, by omega, i, hi, e⟩))) (fun hne => br_t (by decide) (nm_r (nI_1 k) (ih ?_)))))))
      intro i h1 h2
      by_cases e : i = z - k
      · subst e
        rintro ⟨t, ht, et⟩
        exact hne t ht et
      · exact hI i (by omega) h2))
theorem ff_xtg {post : Int32 → Prop} {c S z x : Nat} (hc : c ≤ 6) (hS : 0 < S) (hS2 : S ≤ 25) (h0 : kn 0 = nI 1) (hz4 : z ≤ 4) (hx : x < 3 ^ z)
    (h : ∀ r, ff_tg (ff_P c li) kn S z x r → post (nI r)) :
    wpX_target post (nI c, nI S, fb, li, kn, st, wy, nw, th, tb, fr) (nI (3 ^ z + x)) :=
  ff_upE (fun m k => wX_target_2 post (nI (3 ^ z + x)) (nI c) (nI S) fb li kn st wy nw th tb fr m (nI k)) (fun _ => True) z 0 (Nat.zero_le z) trivial
    (fun m _ => br_f (nI_ge (b := 5) (by omega) (by decide)) (by
      have hp := ff_pw4 (i := z) (by omega)
      have hp1 := ff_pw z
      rw [nI_1]
      refine ff_xpow (by omega) (br_t (nI_lt (by omega) (by omega)) ?_)
      show wX_target_23 post _ _ _ _ _ _ _ _ _ _ _ _ _
      unfold wX_target_23
      refine ff_xpow (by omega) (br_t (nI_le (by omega) (by omega)) ?_)
      unfold wX_target_34
      refine ff_xpow (by omega) (nm_r (e' := nI x) (by rw [pk_sub (by omega)]; exact congrArg nI (by omega)) ?_)
      exact ff_xt44 hc hS hS2 h0 hz4 (by omega) h))
    (fun m k hk _ ih => br_f (nI_ge (b := 5) (by omega) (by decide)) (by
      have hp := ff_pw4 (i := z) (by omega)
      have hp1 : 3 ^ (k + 1) ≤ 3 ^ z := ff_le3 hk
      rw [nI_1]
      exact ff_xpow (by omega) (br_f (nI_nlt (by omega) (by omega)) (nm_e (ih trivial)))))
end
end
section
/-! the component's reading, ranking, unranking, over a built table -/
def ff_stp (S : Nat) (st : Nat → Int32) (δ : Nat → Nat → Nat) : Prop := ∀ s l, (s < S ∨ s = 25) → l < 3 → st (3 * s + l) = nI (δ s l)
def ff_wys (S : Nat) (δ : Nat → Nat → Nat) (wy : Nat → Int64) : Prop := ∀ n s, n ≤ 30 → s < 26 → wy (26 * n + s) = lN (ff_W S δ n s)
theorem ff_m1 (k : Nat) : nI k + (-1) = nI k - 1 := (Int32.sub_eq_add_neg (nI k) 1).symm
theorem ff_dig {c k : Nat} (hc : c < 2 ^ 31) (hk : k ≤ 10) : nI c / nI (3 ^ k) - nI c / nI (3 ^ k) / 3 * 3 = nI (c / 3 ^ k % 3) := by
  have h1 : 3 ^ k ≤ 3 ^ 10 := ff_le3 hk
  have h2 : 3 ^ 10 = 59049 := rfl
  rw [pk_div hc (ff_pos3 k) (by omega)]
  exact pk_rem (d := 3) (Nat.lt_of_le_of_lt (Nat.div_le_self _ _) hc) (by decide) (by decide)
theorem ff_ix3 (s l : Nat) : 3 * nI s + nI l = nI (3 * s + l) := by
  rw [← nI_add, ← pk_mul]; rfl
theorem ff_ix26 (s l : Nat) : 26 * nI s + nI l = nI (26 * s + l) := by
  rw [← nI_add, ← pk_mul]; rfl
theorem ff_dv3 (c k : Nat) : c / 3 ^ k / 3 = c / 3 ^ (k + 1) := by rw [Nat.div_div_eq_div_mul, ff_pw]
theorem ff_rdk (δ : Nat → Nat → Nat) (s n c k : Nat) (hk : k < n) : ff_rd δ s (n - k) (c / 3 ^ k) = δ (ff_rd δ s (n - (k + 1)) (c / 3 ^ (k + 1))) (c / 3 ^ k % 3) := by
  rw [show n - k = (n - (k + 1)) + 1 by omega, ff_rd_s, ff_dv3]
section
variable {fc fs fb : Int32} {li kn st : Nat → Int32} {wy nw th : Nat → Int64} {tb fr : Nat → Int32} {S : Nat} {δ : Nat → Nat → Nat} {B : Nat → Bool}
theorem ff_xrd {post : Int32 → Prop} {s n c : Nat} (A : ff_Au S δ) (hst : ff_stp S st δ) (hs : s < S ∨ s = 25) (hn : n ≤ 10) (hc : c < 2 ^ 31) (h : post (nI (ff_rd δ s n c))) :
    wpX_read post (fc, fs, fb, li, kn, st, wy, nw, th, tb, fr) (nI s) (nI n) (nI c) := by
  refine nm_e ⟨n + 1, ?_⟩
  have key := ff_dn (fun m k => wX_read_8 post (nI c) fc fs fb li kn st wy nw th tb fr m (nI (ff_rd δ s (n - k) (c / 3 ^ k))) (nI k - 1)) (fun k => k ≤ n)
    (fun m _ => br_t (by decide) (by rw [Nat.pow_zero, Nat.div_one]; exact h))
    (fun m k hk ih => by
      rw [nI_pred]
      have h26 := ff_rd_26 A hs (n - (k + 1)) (c / 3 ^ (k + 1))
      have hin := ff_rd_in A hs (n - (k + 1)) (c / 3 ^ (k + 1))
      have hl : c / 3 ^ k % 3 < 3 := Nat.mod_lt _ (by decide)
      have h3 : 3 ^ k ≤ 3 ^ 10 := ff_le3 (by omega)
      have h4 : 3 ^ 10 = 59049 := rfl
      refine br_f (nI_pos (by omega)) (ff_xpow (by omega) (And.intro (nI_ne0 (ff_pos3 k) (by omega)) (And.intro (by decide) (nm_r (ff_dig hc (by omega)) ?_))))
      rw [ff_ix3]
      refine And.intro (vp_in_nI (by omega) (by decide)) (nm_r (e' := nI (ff_rd δ s (n - k) (c / 3 ^ k))) ?_ (nm_r (ff_m1 k) (ih (by omega))))
      rw [nI_clamp (by omega), hst _ _ hin hl, ← ff_rdk δ s n c k hk])
    (n + 1) n (by omega) (Nat.le_refl n)
  rw [Nat.sub_self] at key
  exact key
theorem ff_xbel {post : Int32 → Prop} {n c : Nat} (A : ff_Au S δ) (O : ff_Ok B δ) (hst : ff_stp S st δ) (hwy : ff_wys S δ wy) (hn : n ≤ 9) (hc : c < 3 ^ n) (h : post (nI (ff_R B n c))) :
    wpX_below post (fc, fs, fb, li, kn, st, wy, nw, th, tb, fr) (nI n) (nI c) := by
  have h9 := ff_le9 hn
  have hs0 : (0 : Nat) < S ∨ 0 = 25 := Or.inl A.1
  refine nm_e ⟨n + 1, ?_⟩
  have key := ff_dn (fun m k => wX_below_10 post (nI c) fc fs fb li kn st wy nw th tb fr m (nI (ff_rd δ 0 (n - k) (c / 3 ^ k))) (lN (ff_R B n (c / 3 ^ k * 3 ^ k))) (nI k - 1)) (fun k => k ≤ n)
    (fun m _ => br_t (by decide) (by rw [lN_i, Nat.pow_zero, Nat.div_one, Nat.mul_one]; exact h))
    (fun m k hk ih => by
      rw [nI_pred]
      have h26 := ff_rd_26 A hs0 (n - (k + 1)) (c / 3 ^ (k + 1))
      have hin := ff_rd_in A hs0 (n - (k + 1)) (c / 3 ^ (k + 1))
      have hl : c / 3 ^ k % 3 < 3 := Nat.mod_lt _ (by decide)
      have h3 : 3 ^ k ≤ 3 ^ 10 := ff_le3 (by omega)
      have h4 : 3 ^ 10 = 59049 := rfl
      have hr : ff_R B n (c / 3 ^ k * 3 ^ k) = ff_R B n (c / 3 ^ (k + 1) * 3 ^ (k + 1)) + ff_sm (fun x => ff_W S δ k (δ (ff_rd δ 0 (n - (k + 1)) (c / 3 ^ (k + 1))) x)) (c / 3 ^ k % 3) := by
        have e1 := ff_bel A O (n - (k + 1)) k (c / 3 ^ (k + 1)) (c / 3 ^ k % 3) (by omega)
        rw [show n - (k + 1) + 1 + k = n by omega] at e1
        rw [← e1, ← ff_dv3]
        congr 2
        omega
      refine br_f (nI_pos (by omega)) (ff_xpow (by omega) (And.intro (nI_ne0 (ff_pos3 k) (by omega)) (And.intro (by decide) (nm_r (ff_dig (by omega) (by omega)) ?_))))
      generalize hsd : ff_rd δ 0 (n - (k + 1)) (c / 3 ^ (k + 1)) = s at h26 hin hr
      generalize hld : c / 3 ^ k % 3 = l at hl hr
      refine ff_upE (fun mm i => wX_below_29 post (wX_below_10 post (nI c) fc fs fb li kn st wy nw th tb fr m) (nI c) (nI s) (nI k) (nI l) fc fs fb li kn st wy nw th tb fr mm (lN (ff_R B n (c / 3 ^ (k + 1) * 3 ^ (k + 1)) + ff_sm (fun x => ff_W S δ k (δ s x)) i)) (nI i)) (fun _ => True) l 0 (Nat.zero_le l) trivial ?_ ?_
      · intro mm _
        refine br_t (nI_le (Nat.le_refl l) (by omega)) ?_
        rw [ff_ix3]
        refine And.intro (vp_in_nI (by omega) (by decide)) (nm_r (e' := nI (ff_rd δ 0 (n - k) (c / 3 ^ k))) ?_ (nm_r (ff_m1 k) ?_))
        · rw [nI_clamp (by omega), hst _ _ hin hl, ff_rdk δ 0 n c k hk, hsd, hld]
        · rw [← hr]
          exact ih (by omega)
      · intro mm i hi _ ih2
        refine br_f (nI_ge hi (by omega)) ?_
        have hd := ff_dl_26 A hin (l := i) (by omega)
        have hS := A.2.1
        rw [ff_ix3, nI_clamp (by omega), hst _ _ hin (by omega), ff_ix26, nI_clamp (by omega), hwy k _ (by omega) (by omega)]
        exact And.intro (vp_in_nI (by omega) (by decide)) (And.intro (vp_in_nI (by omega) (by decide)) (nm_r (lN_add _ _) (nm_r (nI_1 i) (by rw [Nat.add_assoc]; exact ih2 trivial)))))
    (n + 1) n (by omega) (Nat.le_refl n)
  rw [Nat.sub_self, Nat.div_eq_of_lt hc, Nat.zero_mul] at key
  exact key
end
end
section
/-! the component's unranking and reflecting -/
section
variable {fc fs fb : Int32} {li kn st : Nat → Int32} {wy nw th : Nat → Int64} {tb fr : Nat → Int32} {S : Nat} {δ : Nat → Nat → Nat} {B : Nat → Bool}
theorem ff_xun14 {post : Int32 → Prop} {n i : Nat} (A : ff_Au S δ) (O : ff_Ok B δ) (hst : ff_stp S st δ) (hwy : ff_wys S δ wy) (hn : n ≤ 9) (h : ∀ q, ff_un B n i q → post (nI q)) :
    ∀ k m q lf, m + k = n → q < 3 ^ m → ff_R B n (q * 3 ^ k) + lf = i → lf < ff_W S δ k (ff_rd δ 0 m q) →
    ∀ f, k < f → wX_unrank_14 post fc fs fb li kn st wy nw th tb fr f (nI (ff_rd δ 0 m q)) (lN lf) (nI q) (nI k - 1) := by
  have hs0 : (0 : Nat) < S ∨ 0 = 25 := Or.inl A.1
  have hS := A.2.1
  intro k
  induction k with
  | zero =>
    intro m q lf hm hq hR hlf f hf
    obtain ⟨f, rfl⟩ : ∃ g, f = g + 1 := ⟨f - 1, by omega⟩
    rw [ff_W_0] at hlf
    by_cases hr : ff_rd δ 0 m q < S
    · rw [if_pos hr] at hlf
      rw [Nat.pow_zero, Nat.mul_one] at hR
      have em : m = n := by omega
      subst em
      refine br_t (by decide) (h q ⟨hq, ?_, by omega⟩)
      cases hg : ff_gd B m q with
      | true => rfl
      | false =>
        have := (O m q).mpr hg
        omega
    · rw [if_neg hr] at hlf
      omega
  | succ k ih =>
    intro m q lf hm hq hR hlf f hf
    obtain ⟨f, rfl⟩ : ∃ g, f = g + 1 := ⟨f - 1, by omega⟩
    have hin := ff_rd_in A hs0 m q
    have h26 := ff_rd_26 A hs0 m q
    have hq3 : 3 ^ m ≤ 3 ^ 9 := ff_le3 (by omega)
    have h4 : 3 ^ 9 = 19683 := rfl
    have hlf2 : lf < 2 ^ 63 := by
      have := ff_W_63 S δ (n := k + 1) (by omega) (ff_rd δ 0 m q)
      omega
    rw [nI_pred]
    refine br_f (nI_pos (by omega)) ?_
    have fin : ∀ t, t < 3 → ff_sm (fun x => ff_W S δ k (δ (ff_rd δ 0 m q) x)) t ≤ lf → lf - ff_sm (fun x => ff_W S δ k (δ (ff_rd δ 0 m q) x)) t < ff_W S δ k (δ (ff_rd δ 0 m q) t) →
        wX_unrank_89 post (wX_unrank_14 post fc fs fb li kn st wy nw th tb fr f) (nI (ff_rd δ 0 m q)) (lN (lf - ff_sm (fun x => ff_W S δ k (δ (ff_rd δ 0 m q) x)) t)) (nI q) (nI k) (nI t) fc fs fb li kn st wy nw th tb fr := by
      intro t ht h1 h2
      unfold wX_unrank_89
      rw [ff_ix3, ff_ix3]
      refine nm_r (e' := nI (q * 3 + t)) (by rw [Nat.mul_comm]) (And.intro (vp_in_nI (by omega) (by decide)) (nm_r (e' := nI (ff_rd δ 0 (m + 1) (q * 3 + t))) ?_ (nm_r (ff_m1 k) ?_)))
      · rw [nI_clamp (by omega), hst _ _ hin ht, ff_rd_snoc δ 0 m q t ht]
      · apply ih (m + 1) (q * 3 + t) _ (by omega) (by rw [ff_pw]; omega) ?_ ?_ f (by omega)
        · have e := ff_bel A O m k q t (by omega)
          rw [show m + 1 + k = n by omega] at e
          rw [e]
          omega
        · rw [ff_rd_snoc δ 0 m q t ht]
          exact h2
    have hW : lf < ff_sm (fun x => ff_W S δ k (δ (ff_rd δ 0 m q) x)) 3 := by
      rw [ff_sm3]
      rw [ff_W_s] at hlf
      by_cases hr : ff_rd δ 0 m q < S
      · rw [if_pos hr] at hlf
        exact hlf
      · rw [if_neg hr] at hlf
        omega
    refine ff_upE (fun mm t => wX_unrank_22 post (wX_unrank_14 post fc fs fb li kn st wy nw th tb fr f) (nI (ff_rd δ 0 m q)) (nI q) (nI k) fc fs fb li kn st wy nw th tb fr mm (lN (lf - ff_sm (fun x => ff_W S δ k (δ (ff_rd δ 0 m q) x)) t)) (nI t)) (fun t => ff_sm (fun x => ff_W S δ k (δ (ff_rd δ 0 m q) x)) t ≤ lf) 2 0 (by decide) (Nat.zero_le _) ?_ ?_
    · intro mm hI
      refine br_t (by decide) (fin 2 (by decide) hI ?_)
      rw [ff_sm_s] at hW
      omega
    · intro mm t ht hI ih2
      have hd := ff_dl_26 A hin (l := t) (by omega)
      have hw63 := ff_W_63 S δ (n := k) (by omega) (δ (ff_rd δ 0 m q) t)
      refine br_f (nI_ge (b := 2) ht (by decide)) ?_
      rw [ff_ix3, nI_clamp (by omega), hst _ _ hin (by omega), ff_ix26, nI_clamp (by omega), hwy k _ (by omega) (by omega), pk_lLT (by omega) hw63]
      have v1 : vp_in (nI (3 * ff_rd δ 0 m q + t)) 78 := vp_in_nI (by omega) (by decide)
      have v2 : vp_in (nI (26 * k + δ (ff_rd δ 0 m q) t)) 806 := vp_in_nI (by omega) (by decide)
      refine And.intro v1 (And.intro v2 (br_c (fun z => fin t (by omega) hI z) (fun z => And.intro v1 (And.intro v2 (nm_r (lN_sub (by omega)) (nm_r (nI_1 t) ?_))))))
      have e : lf - ff_sm (fun x => ff_W S δ k (δ (ff_rd δ 0 m q) x)) t - ff_W S δ k (δ (ff_rd δ 0 m q) t) = lf - ff_sm (fun x => ff_W S δ k (δ (ff_rd δ 0 m q) x)) (t + 1) := by
        rw [ff_sm_s]; omega
      rw [e]
      apply ih2
      rw [ff_sm_s]
      omega
theorem ff_xun {post : Int32 → Prop} {n i : Nat} (A : ff_Au S δ) (O : ff_Ok B δ) (hst : ff_stp S st δ) (hwy : ff_wys S δ wy) (hn : n ≤ 9) (hi : i < ff_G B n) (h : ∀ q, ff_un B n i q → post (nI q)) :
    wpX_unrank post (fc, fs, fb, li, kn, st, wy, nw, th, tb, fr) (nI n) (nI i) := by
  have h9 := ff_le9 hn
  have hG := ff_G_le B n
  refine nm_e ⟨n + 1, ?_⟩
  have key := ff_xun14 (fc := fc) (fs := fs) (fb := fb) (li := li) (kn := kn) (nw := nw) (th := th) (tb := tb) (fr := fr) A O hst hwy hn h n 0 0 i (by omega) (by decide) (by rw [Nat.zero_mul]; exact Nat.zero_add i) (by rw [ff_rd_0, ff_W_G A O]; exact hi) (n + 1) (by omega)
  rw [nI_l (by omega)]
  exact key
end
theorem ff_xref23 {post : Int32 → Prop} {q r m : Nat} (hm : m ≤ 100) (hr : r < 2 ^ 31) (h : post (nI (q * 3 ^ m + ff_bw m r))) :
    ∃ n, wX_reflect_23 post n (nI q) (nI r) (nI m) := by
  have key := ff_dn (fun f k => wX_reflect_23 post f (nI (q * 3 ^ (m - k) + ff_bw (m - k) r)) (nI (r / 3 ^ (m - k))) (nI k)) (fun k => k ≤ m)
    (fun f _ => br_t (by decide) h)
    (fun f k hk ih => by
      by_cases hb : k + 1 < 2 ^ 31
      · refine br_f (nI_nle (by omega) hb) (And.intro (by decide) (nm_r (e' := nI (q * 3 ^ (m - k) + ff_bw (m - k) r)) ?_ (And.intro (by decide) (nm_r (e' := nI (r / 3 ^ (m - k))) ?_ (nm_r (pk_m1 k) (ih (by omega)))))))
        · have e1 := pk_rem (a := r / 3 ^ (m - (k + 1))) (d := 3) (Nat.lt_of_le_of_lt (Nat.div_le_self _ _) hr) (by decide) (by decide)
          have e2 : (3 : Int32) = nI 3 := rfl
          rw [e2, e1, pk_mul, nI_add]
          apply congrArg nI
          rw [show m - k = m - (k + 1) + 1 by omega, ff_bw_s, ff_pw, ← Nat.mul_assoc]
          omega
        · have e1 := pk_div (a := r / 3 ^ (m - (k + 1))) (d := 3) (Nat.lt_of_le_of_lt (Nat.div_le_self _ _) hr) (by decide) (by decide)
          have e2 : (3 : Int32) = nI 3 := rfl
          rw [e2, e1, ff_dv3, show m - k = m - (k + 1) + 1 by omega]
      · exact absurd (show k + 1 < 2 ^ 31 by omega) hb)
    (m + 1) m (by omega) (Nat.le_refl m)
  rw [Nat.sub_self, Nat.pow_zero, Nat.mul_one, Nat.div_one] at key
  exact ⟨m + 1, key⟩
theorem ff_xref {post : Int32 → Prop} {q h m : Nat} (hq : q < 2 ^ 31) (hm : h + m ≤ 100) (H : post (nI (q * 3 ^ m + ff_bw m (ff_rs (h + m) q)))) : wpX_reflect post (nI q) (nI h) (nI (h + m)) := by
  have e : nI (h + m) &&& 1 = nI ((h + m) % 2) := pk_andN (by omega) (m := 1) 1 (by decide)
  have e2 : nI (h + m) - nI h = nI m := by rw [pk_sub (by omega)]; exact congrArg nI (by omega)
  unfold wpX_reflect
  rw [e, e2]
  refine pk_eq ((h + m) % 2) 1 (fun z => ?_) (fun z => ?_)
  · rw [show ff_rs (h + m) q = q / 3 from if_pos z] at H
    exact And.intro (by decide) (nm_r (pk_div (d := 3) hq (by decide) (by decide)) (nm_e (ff_xref23 (by omega) (by omega) H)))
  · rw [show ff_rs (h + m) q = q from if_neg z] at H
    exact nm_e (ff_xref23 (by omega) hq H)
end
section
/-! the component's table of ways -/
theorem ff_le_refl26 : (26 : Int32) ≤ nI 26 := by decide
section
variable {fc fb : Int32} {li kn st : Nat → Int32} {wy nw th : Nat → Int64} {tb fr : Nat → Int32} {S : Nat} {δ : Nat → Nat → Nat}
/-- the rows below r are right -/
def ff_Rw (S : Nat) (δ : Nat → Nat → Nat) (r : Nat) (wy : Nat → Int64) : Prop := ∀ n s, n < r → s < 26 → wy (26 * n + s) = lN (ff_W S δ n s)
def ff_Rs (S : Nat) (δ : Nat → Nat → Nat) (r t : Nat) (wy : Nat → Int64) : Prop := ff_Rw S δ r wy ∧ ∀ s, s < t → wy (26 * r + s) = lN (ff_W S δ r s)
theorem ff_Rs_u {r t : Nat} {wy : Nat → Int64} (ht : t < 26) (h : ff_Rs S δ r t wy) (x : Int64) : ff_Rs S δ r t (vp_updL wy (26 * r + t) x) := by
  refine ⟨fun n s hn hs => ?_, fun s hs => ?_⟩
  · rw [pk_uLn (by omega)]
    exact h.1 n s hn hs
  · rw [pk_uLn (by omega)]
    exact h.2 s hs
theorem ff_Rs_s {r t : Nat} {wy : Nat → Int64} (h : ff_Rs S δ r t wy) (e : wy (26 * r + t) = lN (ff_W S δ r t)) : ff_Rs S δ r (t + 1) wy :=
  ⟨h.1, lt_s (p := fun s => wy (26 * r + s) = lN (ff_W S δ r s)) h.2 e⟩
theorem ff_Rs_e {r : Nat} {wy : Nat → Int64} (h : ff_Rs S δ r 26 wy) : ff_Rw S δ (r + 1) wy := by
  intro n s hn hs
  by_cases e : n = r
  · subst e
    exact h.2 s hs
  · exact h.1 n s (by omega) hs
theorem ff_xcw63 {post : SX → Prop} {J35 J43 : Int32 → (Nat → Int32) → (Nat → Int32) → (Nat → Int32) → (Nat → Int64) → (Nat → Int64) → (Nat → Int64) → (Nat → Int32) → (Nat → Int32) → Prop} {r t : Nat}
    (A : ff_Au S δ) (hst : ff_stp S st δ) (hr : r < 30) (ht : t < 26) (hI : ff_Rs S δ (r + 1) t wy) (h0 : wy (26 * (r + 1) + t) = lN 0)
    (hJ : ∀ wy', ff_Rs S δ (r + 1) (t + 1) wy' → J43 (nI (t + 1)) li kn st wy' nw th tb fr) :
    ∃ n, wX_countWays_63 post J35 J43 (nI (r + 1)) (nI t) fc (nI S) fb n 0 li kn st wy nw th tb fr := by
  have hS := A.2.1
  by_cases hts : t < S
  · refine loop_0 (fun n i s => wX_countWays_63 post J35 J43 (nI (r + 1)) (nI t) fc (nI S) fb n (nI i) li kn st s nw th tb fr) (fun i s => ff_Rs S δ (r + 1) t s ∧ s (26 * (r + 1) + t) = lN (ff_sm (fun l => ff_W S δ r (δ t l)) i)) 3 wy ⟨hI, h0⟩ ?_ ?_
    · intro n s hs
      refine br_t (by decide) (nm_r (nI_1 t) (hJ s (ff_Rs_s hs.1 ?_)))
      rw [hs.2, ff_W_s, if_pos hts, ff_sm3]
    · intro n i s hi hs ih
      have hd := ff_dl_26 A (Or.inl hts) hi
      refine br_f (nI_ge (b := 3) hi (by decide)) (br_f (nI_ge hts (by omega)) ?_)
      rw [nI_pred, ff_ix26, ff_ix3, nI_clamp (n := 26 * (r + 1) + t) (by omega), nI_clamp (n := 3 * t + i) (by omega), hst t i (Or.inl hts) hi, ff_ix26, nI_clamp (n := 26 * r + δ t i) (by omega)]
      refine And.intro (vp_in_nI (by omega) (by decide)) (And.intro (vp_in_nI (by omega) (by decide)) (And.intro (vp_in_nI (by omega) (by decide)) (And.intro (vp_in_nI (by omega) (by decide)) (nm_e (nm_r (nI_1 i) (ih _ ⟨ff_Rs_u ht hs.1 _, ?_⟩))))))
      rw [pk_uLs, hs.2, hs.1.1 r _ (by omega) (by omega), lN_add]
      rfl
  · refine ⟨1, br_f (by decide) (br_t (nI_le (by omega) (by omega)) (nm_r (nI_1 t) (hJ wy (ff_Rs_s hI ?_))))⟩
    rw [h0, ff_W_out hts]
theorem ff_xcw43 {post : SX → Prop} {J35 : Int32 → (Nat → Int32) → (Nat → Int32) → (Nat → Int32) → (Nat → Int64) → (Nat → Int64) → (Nat → Int64) → (Nat → Int32) → (Nat → Int32) → Prop} {r : Nat}
    (A : ff_Au S δ) (hst : ff_stp S st δ) (hr : r < 30) (hI : ff_Rw S δ (r + 1) wy) (hJ : ∀ wy', ff_Rw S δ (r + 2) wy' → J35 (nI (r + 2)) li kn st wy' nw th tb fr) :
    ∃ n, wX_countWays_43 post J35 (nI (r + 1)) fc (nI S) fb n 0 li kn st wy nw th tb fr := by
  refine loop_0 (fun n i s => wX_countWays_43 post J35 (nI (r + 1)) fc (nI S) fb n (nI i) li kn st s nw th tb fr) (fun i s => ff_Rs S δ (r + 1) i s) 26 wy ⟨hI, lt_0 (p := fun s => wy (26 * (r + 1) + s) = lN (ff_W S δ (r + 1) s))⟩ ?_ ?_
  · intro n s hs
    exact br_t (by decide) (nm_r (nI_1 (r + 1)) (hJ s (ff_Rs_e hs)))
  · intro n i s hi hs ih
    refine br_f (nI_ge (b := 26) hi (by decide)) ?_
    rw [ff_ix26, nI_clamp (by omega)]
    exact And.intro (vp_in_nI (by omega) (by decide)) (nm_e (ff_xcw63 A hst hr hi (ff_Rs_u hi hs _) pk_uLs ih))
theorem ff_xcw35 {post : SX → Prop} (A : ff_Au S δ) (hst : ff_stp S st δ) (hI : ff_Rw S δ 1 wy) (h : ∀ wy', ff_wys S δ wy' → post (fc, nI S, fb, li, kn, st, wy', nw, th, tb, fr)) :
    ∃ n, wX_countWays_35 post fc (nI S) fb n 1 li kn st wy nw th tb fr := by
  refine loop_0 (fun n i s => wX_countWays_35 post fc (nI S) fb n (nI (i + 1)) li kn st s nw th tb fr) (fun i s => ff_Rw S δ (i + 1) s) 30 wy hI ?_ ?_
  · intro n s hs
    exact br_t (by decide) (h s (fun n s hn hs2 => hs n s (by omega) hs2))
  · intro n i s hi hs ih
    exact br_f (nI_nlt (b := i + 1) (a := 30) (by omega) (by decide)) (ff_xcw43 A hst hi hs ih)
theorem ff_xcw {post : SX → Prop} (A : ff_Au S δ) (hst : ff_stp S st δ) (h : ∀ wy', ff_wys S δ wy' → post (fc, nI S, fb, li, kn, st, wy', nw, th, tb, fr)) :
    wpX_countWays post (fc, nI S, fb, li, kn, st, wy, nw, th, tb, fr) := by
  have hS := A.2.1
  refine loop_0 (fun n i s => wX_countWays_2 post fc (nI S) fb n (nI i) li kn st s nw th tb fr) (fun i s => ∀ j, j < i → s j = lN (ff_W S δ 0 j)) 26 wy (lt_0 (p := fun j => wy j = lN (ff_W S δ 0 j))) ?_ ?_
  · intro n s hs
    refine br_t (by decide) (ff_xcw35 A hst ?_ h)
    intro n' s' h1 h2
    have e : n' = 0 := by omega
    subst e
    rw [Nat.mul_zero, Nat.zero_add]
    exact hs s' h2
  · intro n i s hi hs ih
    refine br_f (nI_ge (b := 26) hi (by decide)) ?_
    rw [nI_clamp (by omega)]
    have key : ∀ x, x = lN (ff_W S δ 0 i) → ∀ j, j < i + 1 → (vp_updL s i x) j = lN (ff_W S δ 0 j) := by
      intro x hx j hj
      by_cases e : j = i
      · subst e
        rw [pk_uLs, hx]
      · rw [pk_uLn e]
        exact hs j (by omega)
    refine pk_le S i (fun z => And.intro (vp_in_nI (by omega) (by decide)) (nm_e (nm_r (nI_1 i) (ih _ (key _ ?_))))) (fun z => And.intro (vp_in_nI (by omega) (by decide)) (nm_e (nm_r (nI_1 i) (ih _ (key _ ?_)))))
    · rw [ff_W_0, if_neg (by omega)]; rfl
    · rw [ff_W_0, if_pos z]; rfl
end
end
section
/-! the component builds its machine -/
def ff_L (c : Nat) (li : Nat → Int32) (B : Nat → Bool) : Prop :=
  c ≤ 6 ∧ (∀ i, i < c → ∃ p, ff_pc p ∧ li i = nI p) ∧ (∀ i j, i < j → j < c → li i ≠ li j) ∧ (∀ p, p < 162 → (B p = true ↔ ff_P c li p))
def ff_Bt (B : Nat → Bool) (S : Nat) (st : Nat → Int32) (wy : Nat → Int64) : Prop :=
  ff_Au S (ff_dl st) ∧ ff_Ok B (ff_dl st) ∧ ff_stp S st (ff_dl st) ∧ ff_wys S (ff_dl st) wy
theorem ff_juniq {j x j' x' : Nat} (hx : x < 3 ^ j) (hx' : x' < 3 ^ j') (h : 3 ^ j + x = 3 ^ j' + x') : j = j' ∧ x = x' := by
  have key : ∀ a b : Nat, a < b → 3 ^ a * 3 ≤ 3 ^ b := fun a b hab => ff_le3 (a := a + 1) hab
  have p1 := ff_pos3 j
  have p2 := ff_pos3 j'
  rcases Nat.lt_trichotomy j j' with z | z | z
  · have := key _ _ z
    omega
  · subst z
    exact ⟨rfl, by omega⟩
  · have := key _ _ z
    omega
theorem ff_pre {p l : Nat} (hp : ff_pc p) (h1 : l ≤ ff_sz p) : ∃ x, x < 3 ^ (ff_sz p - l) ∧ p / 3 ^ l = 3 ^ (ff_sz p - l) + x := by
  have e : 3 ^ ff_sz p = 3 ^ (ff_sz p - l) * 3 ^ l := by rw [← Nat.pow_add, Nat.sub_add_cancel h1]
  have p0 := ff_pos3 l
  have a : 3 ^ (ff_sz p - l) ≤ p / 3 ^ l := by
    rw [Nat.le_div_iff_mul_le p0, ← e]
    exact hp.1
  have b : p / 3 ^ l < 2 * 3 ^ (ff_sz p - l) := by
    rw [Nat.div_lt_iff_lt_mul p0, Nat.mul_assoc, ← e]
    exact hp.2
  exact ⟨p / 3 ^ l - 3 ^ (ff_sz p - l), by omega, by omega⟩
theorem ff_Kn_add {k S : Nat} {li kn : Nat → Int32} {p l : Nat} (hK : ff_Kn k li kn S) (hS : S ≤ 18) (hp : ff_pc p) (hl : 1 ≤ l) (hl2 : l < ff_sz p) (ht : ∃ t, t < S ∧ kn t = nI (p / 3 ^ (l + 1))) :
    ff_Kn k li (upd kn S (nI (p / 3 ^ l))) (S + 1) := by
  obtain ⟨h1, h2, h3, h4, h5⟩ := hK
  have hsz := ff_sz_in p
  refine ⟨by omega, by omega, ?_, ?_, ?_⟩
  · rw [pk_un (by omega)]
    exact h3
  · intro s hs
    by_cases e : s = S
    · subst e
      obtain ⟨x, hx, ex⟩ := ff_pre hp (Nat.le_of_lt hl2)
      refine ⟨ff_sz p - l, x, by omega, hx, by rw [pk_us, ex], fun _ => ?_⟩
      obtain ⟨t, ht1, ht2⟩ := ht
      refine ⟨t, by omega, ?_⟩
      rw [pk_un (by omega), ht2, ← ex, ff_dv3]
    · obtain ⟨j, x, a, b, c, d⟩ := h4 s (by omega)
      refine ⟨j, x, a, b, by rw [pk_un e]; exact c, fun hj => ?_⟩
      obtain ⟨t, t1, t2⟩ := d hj
      exact ⟨t, by omega, by rw [pk_un (by omega)]; exact t2⟩
  · intro i q hi hq e
    obtain ⟨t, t1, t2⟩ := h5 i q hi hq e
    exact ⟨t, by omega, by rw [pk_un (by omega)]; exact t2⟩
section
variable {fc fb : Int32} {li kn st : Nat → Int32} {wy nw th : Nat → Int64} {tb fr : Nat → Int32} {B : Nat → Bool}
theorem ff_xb49 {post : SX → Prop} {J27 : Int32 → Int32 → (Nat → Int32) → (Nat → Int32) → (Nat → Int32) → (Nat → Int64) → (Nat → Int64) → (Nat → Int64) → (Nat → Int32) → (Nat → Int32) → Prop} {k p : Nat}
    (hk : k < 6) (hp : ff_pc p) (e : li k = nI p) (hJ : ∀ S kn, ff_Kn (k + 1) li kn S → S ≤ 1 + 3 * (k + 1) → J27 (nI (k + 1)) (nI S) li kn st wy nw th tb fr) :
    ∀ l S kn, l < ff_sz p → ff_Kn k li kn S → S + l ≤ 3 * k + 4 → (∃ t, t < S ∧ kn t = nI (p / 3 ^ (l + 1))) → ∀ f, l < f →
    wX_build_49 post J27 (nI k) fc fb f (nI l) (nI S) li kn st wy nw th tb fr := by
  have hsz := ff_sz_in p
  have h162 := ff_pc_162 hp
  intro l
  induction l with
  | zero =>
    intro S kn _ hK hS ht f hf
    obtain ⟨f, rfl⟩ : ∃ g, f = g + 1 := ⟨f - 1, by omega⟩
    refine br_t (by decide) (nm_r (nI_1 k) (hJ S kn ⟨hK.1, hK.2.1, hK.2.2.1, hK.2.2.2.1, ?_⟩ (by omega)))
    intro i q hi hq ei
    by_cases ek : i = k
    · subst ek
      rw [e] at ei
      have := ff_nInj (by omega) (by omega) ei
      subst this
      exact ht
    · exact hK.2.2.2.2 i q (by omega) hq ei
  | succ l ih =>
    intro S kn hl hK hS ht f hf
    obtain ⟨f, rfl⟩ : ∃ g, f = g + 1 := ⟨f - 1, by omega⟩
    have h3 : 3 ^ (l + 1) ≤ 3 ^ 4 := ff_le3 (by omega)
    have h4 : 3 ^ 4 = 81 := rfl
    have hp0 := ff_pos3 (l + 1)
    have h19 := hK.2.1
    refine br_f (nI_nlt (b := 1) (by omega) (by omega)) (And.intro (vp_in_nI hk (by decide)) (ff_xpow (by omega) (And.intro (nI_ne0 hp0 (by omega)) ?_)))
    rw [nI_clamp (by omega), e, pk_div (by omega) hp0 (by omega)]
    refine nm_e (ff_xsto (by omega) (fun i hi ei => br_t (nI_pos' (by omega)) (nm_r (pk_m1 l) (ih S kn (by omega) hK (by omega) ⟨i, hi, ei⟩ f (by omega)))) (fun hne => br_f (by decide) ?_))
    rw [nI_clamp (by omega)]
    refine And.intro (vp_in_nI (by omega) (by decide)) (nm_e (nm_r (nI_1 S) (nm_r (pk_m1 l) (ih (S + 1) _ (by omega) (ff_Kn_add hK (by omega) hp (by omega) hl ht) (by omega) ⟨S, by omega, pk_us⟩ f (by omega)))))
end
end
section
/-! the component builds its machine: the steps, and the whole -/
def ff_Sti (c : Nat) (li kn : Nat → Int32) (S : Nat) (i : Nat) (st : Nat → Int32) : Prop :=
  ∀ s l, s < S → l < 3 → 3 * s + l < i → ∀ j x, j ≤ 3 → x < 3 ^ j → kn s = nI (3 ^ j + x) → ∃ r, st (3 * s + l) = nI r ∧ ff_tg (ff_P c li) kn S (j + 1) (x * 3 + l) r
section
variable {fb : Int32} {li kn st : Nat → Int32} {wy nw th : Nat → Int64} {tb fr : Nat → Int32} {B : Nat → Bool} {c : Nat}
theorem ff_xb153 {post : SX → Prop} {S : Nat} (hL : ff_L c li B) (hK : ff_Kn c li kn S) (hS : ff_St c li kn S st) (h : ∀ st wy, ff_Bt B S st wy → post (nI c, nI S, fb, li, kn, st, wy, nw, th, tb, fr)) :
    ∃ n, wX_build_153 post (nI c) (nI S) fb n 0 li kn st wy nw th tb fr := by
  have h19 := hK.2.1
  refine loop_0 (fun n i s => wX_build_153 post (nI c) (nI S) fb n (nI i) li kn s wy nw th tb fr) (fun i s => ff_St c li kn S s ∧ ∀ l, l < i → s (75 + l) = nI 25) 3 st ⟨hS, lt_0 (p := fun l => st (75 + l) = nI 25)⟩ ?_ ?_
  · intro n s hs
    obtain ⟨A, hst⟩ := ff_au hK hs.1 hs.2
    exact br_t (by decide) (ff_xcw A hst (fun wy' hw => h s wy' ⟨A, ff_ok hK hL.2.2.2 hs.1 hs.2, hst, hw⟩))
  · intro n i s hi hs ih
    have e : (75 : Int32) + nI i = nI (75 + i) := nI_add 75 i
    refine br_f (nI_ge (b := 3) hi (by decide)) ?_
    rw [e, nI_clamp (by omega)]
    refine And.intro (vp_in_nI (by omega) (by decide)) (nm_e (nm_r (nI_1 i) (ih _ ⟨?_, ?_⟩)))
    · intro a l ha hl j x hj hx ek
      rw [pk_un (by omega)]
      exact hs.1 a l ha hl j x hj hx ek
    · intro l hl
      by_cases el : l = i
      · subst el
        exact pk_us
      · rw [pk_un (by omega)]
        exact hs.2 l (by omega)
theorem ff_xb111 {post : SX → Prop} {S : Nat} (hL : ff_L c li B) (hK : ff_Kn c li kn S) (h : ∀ st wy, ff_Bt B S st wy → post (nI c, nI S, fb, li, kn, st, wy, nw, th, tb, fr)) :
    ∃ n, wX_build_111 post (nI c) (nI S) fb n 0 li kn st wy nw th tb fr := by
  have h19 := hK.2.1
  have e3 : (3 : Int32) * nI S = nI (3 * S) := pk_mul 3 S
  refine loop_0 (fun n i s => wX_build_111 post (nI c) (nI S) fb n (nI i) li kn s wy nw th tb fr) (fun i s => ff_Sti c li kn S i s) (3 * S) st (fun s l _ _ hlt => absurd hlt (Nat.not_lt_zero _)) ?_ ?_
  · intro n s hs
    refine br_t (by rw [e3]; exact nI_le (Nat.le_refl _) (by omega)) (ff_xb153 hL hK ?_ h)
    intro a l ha hl
    exact hs a l ha hl (by omega)
  · intro n i s hi hs ih
    have d1 : nI i / 3 = nI (i / 3) := pk_div (d := 3) (by omega) (by decide) (by decide)
    have d2 : nI i - nI i / 3 * 3 = nI (i % 3) := pk_rem (d := 3) (by omega) (by decide) (by decide)
    refine br_f (by rw [e3]; exact nI_ge hi (by omega)) (And.intro (by decide) ?_)
    rw [d2, d1, nI_clamp (n := i / 3) (by omega)]
    obtain ⟨j, x, hj, hx, ek, -⟩ := hK.2.2.2.1 (i / 3) (by omega)
    have ea : (3 : Int32) * nI (3 ^ j + x) + nI (i % 3) = nI (3 ^ (j + 1) + (x * 3 + i % 3)) := by
      rw [ff_ix3, ff_pw]
      exact congrArg nI (by omega)
    rw [ek, ea]
    refine And.intro (vp_in_nI (by omega) (by decide)) (And.intro (by decide) (ff_xtg hL.1 hK.1 (by omega) hK.2.2.1 (by omega) (by rw [ff_pw]; omega) (fun r hr => ?_)))
    rw [nI_clamp (by omega)]
    refine And.intro (vp_in_nI (by omega) (by decide)) (nm_e (nm_r (nI_1 i) (ih _ ?_)))
    intro a l ha hl hlt j' x' hj' hx' ek'
    by_cases ei : 3 * a + l = i
    · have ea3 : i / 3 = a := by omega
      have el3 : i % 3 = l := by omega
      rw [ea3, ek'] at ek
      have l1 := ff_j54 hj hx
      have l2 := ff_j54 hj' hx'
      obtain ⟨rfl, rfl⟩ := ff_juniq hx' hx (ff_nInj (by omega) (by omega) ek)
      refine ⟨r, by rw [ei]; exact pk_us, ?_⟩
      rw [← el3]
      exact hr
    · rw [pk_un ei]
      exact hs a l ha hl (by omega) j' x' hj' hx' ek'
theorem ff_xb27 {post : SX → Prop} (hL : ff_L c li B) (h : ∀ S kn st wy, ff_Bt B S st wy → post (nI c, nI S, fb, li, kn, st, wy, nw, th, tb, fr)) :
    ∀ f k S kn, k ≤ c → c - k < f → ff_Kn k li kn S → S ≤ 1 + 3 * k → wX_build_27 post (nI c) fb f (nI k) (nI S) li kn st wy nw th tb fr := by
  intro f
  induction f with
  | zero => intro k S kn _ hf; omega
  | succ f ih =>
    intro k S kn hkc hf hK hS
    have hc := hL.1
    by_cases e : k = c
    · subst e
      exact br_t (nI_le (Nat.le_refl k) (by omega)) (ff_xb111 hL hK (fun st wy hb => h S kn st wy hb))
    · obtain ⟨p, hp, ep⟩ := hL.2.1 k (by omega)
      have hsz := ff_sz_in p
      have h162 := ff_pc_162 hp
      refine br_f (nI_ge (by omega) (by omega)) (And.intro (vp_in_nI (by omega) (by decide)) ?_)
      rw [nI_clamp (by omega), ep]
      refine ff_xsz (by omega) (nm_r (e' := nI (ff_sz p - 1)) (pk_sub (b := 1) (by omega)) ⟨ff_sz p, ?_⟩)
      refine ff_xb49 (by omega) hp ep (fun S' kn' hK' hS' => ih (k + 1) S' kn' (by omega) (by omega) hK' hS') (ff_sz p - 1) S kn (by omega) hK (by omega) ⟨0, hK.1, ?_⟩ (ff_sz p) (by omega)
      obtain ⟨x, hx, ex⟩ := ff_pre hp (Nat.le_refl _)
      rw [Nat.sub_self, Nat.pow_zero] at hx ex
      rw [show ff_sz p - 1 + 1 = ff_sz p by omega, ex, hK.2.2.1, show x = 0 by omega]
theorem ff_xbuild {post : SX → Prop} {fs : Int32} (hL : ff_L c li B) (hb : fb = 0 ∨ (fb = 1 ∧ ∃ S, fs = nI S ∧ ff_Bt B S st wy))
    (h : ∀ S kn st wy, ff_Bt B S st wy → post (nI c, nI S, 1, li, kn, st, wy, nw, th, tb, fr)) : wpX_build post (nI c, fs, fb, li, kn, st, wy, nw, th, tb, fr) := by
  rcases hb with e | ⟨e, S, eS, hB⟩
  · subst e
    refine br_t rfl (nm_e ⟨c + 1, ff_xb27 hL h (c + 1) 0 1 _ (Nat.zero_le c) (by omega) ⟨by omega, by omega, pk_us, ?_, fun i p hi => by omega⟩ (by omega)⟩)
    intro s hs
    have e0 : s = 0 := by omega
    subst e0
    exact ⟨0, 0, by omega, by decide, pk_us, fun hj => by omega⟩
  · subst e eS
    exact br_f (by decide) (h S kn st wy hB)
end
end
section
/-! the component's counts by letters 0 -/
theorem ff_ix10 (s l : Nat) : 10 * nI s + nI l = nI (10 * s + l) := by
  rw [← nI_add, ← pk_mul]; rfl
def ff_Fr (S : Nat) (δ : Nat → Nat → Nat) (t i l : Nat) (fr : Nat → Int32) : Prop :=
  ∀ j, j < 260 → fr j = nI (ff_sm (fun a => ff_T δ t a * ff_sm (fun l => ff_sp δ j a l) 3) i + ff_T δ t i * ff_sm (fun l => ff_sp δ j i l) l)
def ff_Tb (δ : Nat → Nat → Nat) (t : Nat) (tb : Nat → Int32) : Prop := ∀ i, i < 260 → tb i = nI (ff_T δ t i)
section
variable {fc fb : Int32} {li kn st : Nat → Int32} {wy nw th : Nat → Int64} {tb fr : Nat → Int32} {S : Nat} {δ : Nat → Nat → Nat} {B : Nat → Bool}
theorem ff_xs69 {post : SX → Prop} {J24 J37 : Int32 → (Nat → Int32) → (Nat → Int32) → (Nat → Int32) → (Nat → Int64) → (Nat → Int64) → (Nat → Int64) → (Nat → Int32) → (Nat → Int32) → Prop} {t i l : Nat} {z0 : Int32}
    (A : ff_Au S δ) (hT : ff_Tb δ t tb) (hi : i < 10 * S) (hl : l < 3) (hz : z0 = nI (ff_z0 l)) (hF : ff_Fr S δ t i l fr)
    (hJ : ∀ fr', ff_Fr S δ t i (l + 1) fr' → J37 (nI (l + 1)) li kn st wy nw th tb fr') :
    wX_spreadTable_69 post J24 J37 (nI i) (nI l) (nI (δ (i / 10) l)) z0 (nI (i % 10)) fc (nI S) fb li kn st wy nw th tb fr := by
  have hS := A.2.1
  have hd := A.2.2.1 (i / 10) l (by omega) hl
  have hz1 := ff_z0_le l
  subst hz
  unfold wX_spreadTable_69
  have same : ¬ (δ (i / 10) l ≠ 25 ∧ i % 10 + ff_z0 l < 10) → ff_Fr S δ t i (l + 1) fr := by
    intro hn j hj
    rw [ff_sm_s, show ff_sp δ j i l = 0 from if_neg (fun z => hn ⟨z.1, z.2.1⟩), Nat.add_zero (ff_sm (fun l => ff_sp δ j i l) l)]
    exact hF j hj
  refine nm_r (nI_add _ _) (pk_eq (δ (i / 10) l) 25 (fun z => nm_r (nI_1 l) (hJ fr (same (fun y => y.1 z)))) (fun z => pk_le 10 (i % 10 + ff_z0 l) (fun y => nm_r (nI_1 l) (hJ fr (same (fun w => by omega)))) (fun y => ?_)))
  rw [ff_ix10, nI_clamp (by omega), nI_clamp (by omega)]
  refine And.intro (vp_in_nI (by omega) (by decide)) (And.intro (vp_in_nI (by omega) (by decide)) (And.intro (vp_in_nI (by omega) (by decide)) (nm_e (nm_r (nI_1 l) (hJ _ ?_)))))
  intro j hj
  rw [ff_sm_s, Nat.mul_add]
  by_cases e : j = 10 * δ (i / 10) l + (i % 10 + ff_z0 l)
  · subst e
    rw [pk_us, hF _ hj, hT i (by omega), nI_add, show ff_sp δ (10 * δ (i / 10) l + (i % 10 + ff_z0 l)) i l = 1 from if_pos ⟨z, y, rfl⟩, Nat.mul_one, Nat.add_assoc]
  · rw [pk_un e, hF _ hj, show ff_sp δ j i l = 0 from if_neg (fun w => e w.2.2.symm), Nat.mul_zero, Nat.add_zero (ff_T δ t i * ff_sm (fun l => ff_sp δ j i l) l)]
theorem ff_xs37 {post : SX → Prop} {J24 : Int32 → (Nat → Int32) → (Nat → Int32) → (Nat → Int32) → (Nat → Int64) → (Nat → Int64) → (Nat → Int64) → (Nat → Int32) → (Nat → Int32) → Prop} {t i : Nat}
    (A : ff_Au S δ) (hst : ff_stp S st δ) (hT : ff_Tb δ t tb) (hi : i < 10 * S) (hF : ff_Fr S δ t i 0 fr)
    (hJ : ∀ fr', ff_Fr S δ t (i + 1) 0 fr' → J24 (nI (i + 1)) li kn st wy nw th tb fr') :
    ∃ n, wX_spreadTable_37 post J24 (nI i) fc (nI S) fb n 0 li kn st wy nw th tb fr := by
  have hS := A.2.1
  have d1 : nI i / 10 = nI (i / 10) := pk_div (d := 10) (by omega) (by decide) (by decide)
  have d2 : nI i - nI i / 10 * 10 = nI (i % 10) := pk_rem (d := 10) (by omega) (by decide) (by decide)
  refine loop_0 (fun n l s => wX_spreadTable_37 post J24 (nI i) fc (nI S) fb n (nI l) li kn st wy nw th tb s) (fun l s => ff_Fr S δ t i l s) 3 fr hF ?_ ?_
  · intro n s hs
    refine br_t (by decide) (nm_r (nI_1 i) (hJ s ?_))
    intro j hj
    rw [ff_sm_s, ff_sm_z, Nat.mul_zero, Nat.add_zero (_ + ff_T δ t i * _)]
    exact hs j hj
  · intro n l s hl hs ih
    refine br_f (nI_ge (b := 3) hl (by decide)) ?_
    rw [d2, d1, ff_ix3, nI_clamp (by omega), hst _ _ (Or.inl (by omega)) hl]
    refine And.intro (by decide) (And.intro (vp_in_nI (by omega) (by decide)) (nm_e (And.intro (by decide) ?_)))
    refine pk_eq l 0 (fun z => ff_xs69 A hT hi hl (by rw [z]; rfl) hs ih) (fun z => ff_xs69 A hT hi hl (by rw [show ff_z0 l = 0 from if_neg z]; rfl) hs ih)
theorem ff_xs24 {post : SX → Prop} {t : Nat} (A : ff_Au S δ) (hst : ff_stp S st δ) (ht : t < 9) (hT : ff_Tb δ t tb) (hF : ff_Fr S δ t 0 0 fr)
    (h : ∀ tb' fr', ff_Tb δ (t + 1) tb' → post (fc, nI S, fb, li, kn, st, wy, nw, th, tb', fr')) :
    ∃ n, wX_spreadTable_24 post fc (nI S) fb n 0 li kn st wy nw th tb fr := by
  have hS := A.2.1
  have e10 : (10 : Int32) * nI S = nI (10 * S) := pk_mul 10 S
  refine loop_0 (fun n i s => wX_spreadTable_24 post fc (nI S) fb n (nI i) li kn st wy nw th tb s) (fun i s => ff_Fr S δ t i 0 s) (10 * S) fr hF ?_ ?_
  · intro n s hs
    refine br_t (by rw [e10]; exact nI_le (Nat.le_refl _) (by omega)) ?_
    refine loop_0 (fun n i b => wX_spreadTable_120 post fc (nI S) fb n (nI i) li kn st wy nw th b s) (fun i b => ∀ j, j < i → b j = nI (ff_T δ (t + 1) j)) 260 tb (lt_0 (p := fun j => tb j = nI (ff_T δ (t + 1) j))) ?_ ?_
    · intro m b hb
      exact br_t (by decide) (h b s hb)
    · intro m i b hi hb ih
      refine br_f (nI_ge (b := 260) hi (by decide)) ?_
      rw [nI_clamp (by omega)]
      refine And.intro (vp_in_nI hi (by decide)) (And.intro (vp_in_nI hi (by decide)) (nm_e (nm_r (nI_1 i) (ih _ ?_))))
      intro j hj
      by_cases e : j = i
      · subst e
        rw [pk_us, hs j hi, ff_sm_z, Nat.mul_zero, Nat.add_zero (ff_sm _ _), ff_T_s A ht]
      · rw [pk_un e]
        exact hb j (by omega)
  · intro n i s hi hs ih
    exact br_f (by rw [e10]; exact nI_ge hi (by omega)) (ff_xs37 A hst hT hi hs ih)
theorem ff_xspread {post : SX → Prop} {t : Nat} (A : ff_Au S δ) (hst : ff_stp S st δ) (ht : t < 9) (hT : ff_Tb δ t tb)
    (h : ∀ tb' fr', ff_Tb δ (t + 1) tb' → post (fc, nI S, fb, li, kn, st, wy, nw, th, tb', fr')) :
    wpX_spreadTable post (fc, nI S, fb, li, kn, st, wy, nw, th, tb, fr) := by
  refine loop_0 (fun n i s => wX_spreadTable_2 post fc (nI S) fb n (nI i) li kn st wy nw th tb s) (fun i s => ∀ j, j < i → s j = nI 0) 260 fr (lt_0 (p := fun j => fr j = nI 0)) ?_ ?_
  · intro n s hs
    refine br_t (by decide) (ff_xs24 A hst ht hT ?_ h)
    intro j hj
    rw [hs j hj, ff_sm_z, ff_sm_z, Nat.mul_zero]
  · intro n i s hi hs ih
    refine br_f (nI_ge (b := 260) hi (by decide)) ?_
    rw [nI_clamp (by omega)]
    refine And.intro (vp_in_nI hi (by decide)) (nm_e (nm_r (nI_1 i) (ih _ ?_)))
    intro j hj
    by_cases e : j = i
    · subst e
      exact pk_us
    · rw [pk_un e]
      exact hs j (by omega)
theorem ff_xcw77 {post : Int32 → SX → Prop} {n k : Nat} (A : ff_Au S δ) (O : ff_Ok B δ) (hn : n ≤ 9) (hk : k ≤ 9) (hT : ff_Tb δ n tb)
    (h : post (nI (ff_sm (fun c => if ff_zs n c = k then ff_gn B n c else 0) (3 ^ n))) (fc, nI S, fb, li, kn, st, wy, nw, th, tb, fr)) :
    ∃ m, wX_countWith_77 post (nI k) fc (nI S) fb li kn st wy nw th tb fr m 0 0 := by
  have hS := A.2.1
  refine ff_upE (fun m s => wX_countWith_77 post (nI k) fc (nI S) fb li kn st wy nw th tb fr m (nI (ff_sm (fun s => ff_T δ n (10 * s + k)) s)) (nI s)) (fun _ => True) S 0 (Nat.zero_le S) trivial ?_ ?_
  · intro m _
    refine br_t (nI_le (Nat.le_refl S) (by omega)) ?_
    rw [ff_T_sum A O hn hk]
    exact h
  · intro m s hs _ ih
    refine br_f (nI_ge hs (by omega)) ?_
    rw [ff_ix10, nI_clamp (by omega), hT _ (by omega)]
    exact And.intro (vp_in_nI (by omega) (by decide)) (nm_r (nI_add _ _) (nm_r (nI_1 s) (ih trivial)))
theorem ff_xcw57 {post : Int32 → SX → Prop} {n k : Nat} (A : ff_Au S δ) (O : ff_Ok B δ) (hst : ff_stp S st δ) (hn : n ≤ 9) (hk : k ≤ 9) (hT : ff_Tb δ 0 tb)
    (h : ∀ tb fr, post (nI (ff_sm (fun c => if ff_zs n c = k then ff_gn B n c else 0) (3 ^ n))) (fc, nI S, fb, li, kn, st, wy, nw, th, tb, fr)) :
    ∃ m, wX_countWith_57 post (nI n) (nI k) m 0 fc (nI S) fb li kn st wy nw th tb fr := by
  refine loop_0 (fun m i (s : (Nat → Int32) × (Nat → Int32)) => wX_countWith_57 post (nI n) (nI k) m (nI i) fc (nI S) fb li kn st wy nw th s.1 s.2) (fun i s => ff_Tb δ i s.1) n (tb, fr) hT ?_ ?_
  · intro m s hs
    exact br_t (nI_le (Nat.le_refl n) (by omega)) (ff_xcw77 A O hn hk hs (h s.1 s.2))
  · intro m i s hi hs ih
    exact br_f (nI_ge hi (by omega)) (ff_xspread A hst (by omega) hs (fun tb' fr' hT' => nm_r (nI_1 i) (ih (tb', fr') hT')))
theorem ff_xcw28 {post : Int32 → SX → Prop} {n k : Nat} (A : ff_Au S δ) (O : ff_Ok B δ) (hst : ff_stp S st δ) (hn : n ≤ 9) (hk : k ≤ 9)
    (h : ∀ tb fr, post (nI (ff_sm (fun c => if ff_zs n c = k then ff_gn B n c else 0) (3 ^ n))) (fc, nI S, fb, li, kn, st, wy, nw, th, tb, fr)) :
    ∃ m, wX_countWith_28 post (nI n) (nI k) fc (nI S) fb m 0 li kn st wy nw th tb fr := by
  refine loop_0 (fun m i s => wX_countWith_28 post (nI n) (nI k) fc (nI S) fb m (nI i) li kn st wy nw th s fr) (fun i s => ∀ j, j < i → s j = nI 0) 260 tb (lt_0 (p := fun j => tb j = nI 0)) ?_ ?_
  · intro m s hs
    refine br_t (by decide) (nm_e (ff_xcw57 A O hst hn hk ?_ h))
    intro j hj
    rw [ff_T_0]
    by_cases e : j = 0
    · subst e
      rw [pk_us]
      rfl
    · rw [pk_un e, if_neg e]
      exact hs j hj
  · intro m i s hi hs ih
    refine br_f (nI_ge (b := 260) hi (by decide)) ?_
    rw [nI_clamp (by omega)]
    refine And.intro (vp_in_nI hi (by decide)) (nm_e (nm_r (nI_1 i) (ih _ ?_)))
    intro j hj
    by_cases e : j = i
    · subst e
      exact pk_us
    · rw [pk_un e]
      exact hs j (by omega)
end
end
section
/-! the component's words with a piece inside -/
def ff_Nn (δ : Nat → Nat → Nat) (t : Nat) (nw : Nat → Int64) : Prop := ∀ j, j < 26 → nw j = lN (ff_N δ t j)
def ff_Nt (δ : Nat → Nat → Nat) (t i : Nat) (th : Nat → Int64) : Prop := ∀ j, j < 26 → th j = lN (ff_sm (fun i => if δ (i / 3) (i % 3) = j then ff_N δ t (i / 3) else 0) i)
section
variable {fc fb : Int32} {li kn st : Nat → Int32} {wy nw th : Nat → Int64} {tb fr : Nat → Int32} {S : Nat} {δ : Nat → Nat → Nat} {B : Nat → Bool}
theorem ff_xth169 {post : Int64 → SX → Prop} {b m p : Nat} (A : ff_Au S δ) (O : ff_Ok B δ) (hst : ff_stp S st δ) (hwy : ff_wys S δ wy) (hp : ff_pc p) (hm : m ≤ 30) (hN : ff_Nn δ b nw)
    (h : post (lN (ff_Th B b (ff_sz p) (p - 3 ^ ff_sz p) m)) (fc, nI S, fb, li, kn, st, wy, nw, th, tb, fr)) :
    ∃ n, wX_through_169 post (nI p) (nI m) (nI (ff_sz p)) fc (nI S) fb li kn st wy nw th tb fr n 0 0 := by
  have hS := A.2.1
  have hsz := ff_sz_in p
  have h162 := ff_pc_162 hp
  have hq := ff_pc_q hp
  refine ff_upE (fun n s => wX_through_169 post (nI p) (nI m) (nI (ff_sz p)) fc (nI S) fb li kn st wy nw th tb fr n (lN (ff_sm (fun s => ff_N δ b s * ff_W S δ m (ff_rd δ s (ff_sz p) (p - 3 ^ ff_sz p))) s)) (nI s)) (fun _ => True) S 0 (Nat.zero_le S) trivial ?_ ?_
  · intro n _
    refine br_t (nI_le (Nat.le_refl S) (by omega)) ?_
    rw [ff_thr A O b (ff_sz p) m hq]
    exact h
  · intro n s hs _ ih
    have h26 := ff_rd_26 A (Or.inl hs) (ff_sz p) (p - 3 ^ ff_sz p)
    refine br_f (nI_ge hs (by omega)) (ff_xpow (by omega) ?_)
    rw [pk_sub hp.1]
    refine ff_xrd A hst (Or.inl hs) (by omega) (by omega) ?_
    rw [nI_clamp (by omega), hN s (by omega), ff_ix26, nI_clamp (by omega), hwy m _ hm h26]
    exact And.intro (vp_in_nI (by omega) (by decide)) (And.intro (vp_in_nI (by omega) (by decide)) (nm_r (e' := lN (ff_sm (fun s => ff_N δ b s * ff_W S δ m (ff_rd δ s (ff_sz p) (p - 3 ^ ff_sz p))) (s + 1))) (by rw [lN_mul, lN_add]; rfl) (nm_r (nI_1 s) (ih trivial))))
theorem ff_xth113 {post : Int64 → SX → Prop} {J36 : Int32 → (Nat → Int32) → (Nat → Int32) → (Nat → Int32) → (Nat → Int64) → (Nat → Int64) → (Nat → Int64) → (Nat → Int32) → (Nat → Int32) → Prop} {x1 x2 x3 : Int32} {t : Nat}
    (A : ff_Au S δ) (hN : ff_Nt δ t (3 * S) th) (hJ : ∀ nw', ff_Nn δ (t + 1) nw' → J36 (nI (t + 1)) li kn st wy nw' th tb fr) :
    ∃ n, wX_through_113 post J36 x1 x2 x3 (nI t) fc (nI S) fb n 0 li kn st wy nw th tb fr := by
  refine loop_0 (fun n i s => wX_through_113 post J36 x1 x2 x3 (nI t) fc (nI S) fb n (nI i) li kn st wy s th tb fr) (fun i s => ∀ j, j < i → s j = lN (ff_N δ (t + 1) j)) 26 nw (lt_0 (p := fun j => nw j = lN (ff_N δ (t + 1) j))) ?_ ?_
  · intro n s hs
    exact br_t (by decide) (nm_r (nI_1 t) (hJ s hs))
  · intro n i s hi hs ih
    refine br_f (nI_ge (b := 26) hi (by decide)) ?_
    rw [nI_clamp (by omega)]
    have key : ∀ x, x = lN (ff_N δ (t + 1) i) → ∀ j, j < i + 1 → (vp_updL s i x) j = lN (ff_N δ (t + 1) j) := by
      intro x hx j hj
      by_cases e : j = i
      · subst e
        rw [pk_uLs, hx]
      · rw [pk_uLn e]
        exact hs j (by omega)
    refine pk_eq i 25 (fun z => And.intro (vp_in_nI hi (by decide)) (nm_e (nm_r (nI_1 i) (ih _ (key _ ?_))))) (fun z => And.intro (vp_in_nI hi (by decide)) (And.intro (vp_in_nI hi (by decide)) (nm_e (nm_r (nI_1 i) (ih _ (key _ ?_))))))
    · rw [z, ff_N_25]; rfl
    · rw [hN i hi, ff_N_s A t z, Nat.mul_comm 3 S]
theorem ff_xth69 {post : Int64 → SX → Prop} {J36 : Int32 → (Nat → Int32) → (Nat → Int32) → (Nat → Int32) → (Nat → Int64) → (Nat → Int64) → (Nat → Int64) → (Nat → Int32) → (Nat → Int32) → Prop} {x1 x2 x3 : Int32} {t : Nat}
    (A : ff_Au S δ) (hst : ff_stp S st δ) (hN : ff_Nn δ t nw) (hT : ff_Nt δ t 0 th) (hJ : ∀ nw' th', ff_Nn δ (t + 1) nw' → J36 (nI (t + 1)) li kn st wy nw' th' tb fr) :
    ∃ n, wX_through_69 post J36 x1 x2 x3 (nI t) fc (nI S) fb n 0 li kn st wy nw th tb fr := by
  have hS := A.2.1
  have e3 : (3 : Int32) * nI S = nI (3 * S) := pk_mul 3 S
  refine loop_0 (fun n i s => wX_through_69 post J36 x1 x2 x3 (nI t) fc (nI S) fb n (nI i) li kn st wy nw s tb fr) (fun i s => ff_Nt δ t i s) (3 * S) th hT ?_ ?_
  · intro n s hs
    exact br_t (by rw [e3]; exact nI_le (Nat.le_refl _) (by omega)) (ff_xth113 A hs (fun nw' h => hJ nw' s h))
  · intro n i s hi hs ih
    have d1 : nI i / 3 = nI (i / 3) := pk_div (d := 3) (by omega) (by decide) (by decide)
    have est := hst (i / 3) (i % 3) (Or.inl (by omega)) (by omega)
    rw [show 3 * (i / 3) + i % 3 = i by omega] at est
    have hd := A.2.2.1 (i / 3) (i % 3) (by omega) (by omega)
    refine br_f (by rw [e3]; exact nI_ge hi (by omega)) ?_
    rw [d1, nI_clamp (n := i) (by omega), est, nI_clamp (n := δ (i / 3) (i % 3)) (by omega), nI_clamp (n := i / 3) (by omega)]
    refine And.intro (vp_in_nI (by omega) (by decide)) (And.intro (vp_in_nI (by omega) (by decide)) (And.intro (by decide) (And.intro (vp_in_nI (by omega) (by decide)) (And.intro (vp_in_nI (by omega) (by decide)) (nm_e (nm_r (nI_1 i) (ih _ ?_)))))))
    intro j hj
    rw [ff_sm_s]
    by_cases e : j = δ (i / 3) (i % 3)
    · rw [e, pk_uLs, if_pos rfl, hs _ (by omega), hN _ (by omega), lN_add]
    · rw [pk_uLn e, if_neg (fun z => e z.symm), hs j hj, Nat.add_zero (ff_sm _ i)]
theorem ff_xth36 {post : Int64 → SX → Prop} {b m p : Nat} (A : ff_Au S δ) (O : ff_Ok B δ) (hst : ff_stp S st δ) (hwy : ff_wys S δ wy) (hp : ff_pc p) (hb : b ≤ 30) (hm : m ≤ 30) (hN : ff_Nn δ 0 nw)
    (h : ∀ nw th, post (lN (ff_Th B b (ff_sz p) (p - 3 ^ ff_sz p) m)) (fc, nI S, fb, li, kn, st, wy, nw, th, tb, fr)) :
    ∃ n, wX_through_36 post (nI b) (nI p) (nI m) fc (nI S) fb n 0 li kn st wy nw th tb fr := by
  have h162 := ff_pc_162 hp
  refine loop_0 (fun n i (s : (Nat → Int64) × (Nat → Int64)) => wX_through_36 post (nI b) (nI p) (nI m) fc (nI S) fb n (nI i) li kn st wy s.1 s.2 tb fr) (fun i s => ff_Nn δ i s.1) b (nw, th) hN ?_ ?_
  · intro n s hs
    exact br_t (nI_le (Nat.le_refl b) (by omega)) (ff_xsz (by omega) (ff_xth169 A O hst hwy hp hm hs (h s.1 s.2)))
  · intro n i s hi hs ih
    refine br_f (nI_ge hi (by omega)) ?_
    refine loop_0 (fun n' j t => wX_through_45 post (wX_through_36 post (nI b) (nI p) (nI m) fc (nI S) fb n) (nI b) (nI p) (nI m) (nI i) fc (nI S) fb n' (nI j) li kn st wy s.1 t tb fr) (fun j t => ∀ a, a < j → t a = lN 0) 26 s.2 (lt_0 (p := fun a => s.2 a = lN 0)) ?_ ?_
    · intro n' t ht
      exact br_t (by decide) (ff_xth69 A hst hs ht (fun nw' th' hn => ih (nw', th') hn))
    · intro n' j t hj ht ih2
      refine br_f (nI_ge (b := 26) hj (by decide)) ?_
      rw [nI_clamp (by omega)]
      refine And.intro (vp_in_nI hj (by decide)) (nm_e (nm_r (nI_1 j) (ih2 _ ?_)))
      intro a ha
      by_cases e : a = j
      · subst e
        exact pk_uLs
      · rw [pk_uLn e]
        exact ht a (by omega)
theorem ff_xthr {post : Int64 → SX → Prop} {b m p : Nat} (A : ff_Au S δ) (O : ff_Ok B δ) (hst : ff_stp S st δ) (hwy : ff_wys S δ wy) (hp : ff_pc p) (hb : b ≤ 30) (hm : m ≤ 30)
    (h : ∀ nw th, post (lN (ff_Th B b (ff_sz p) (p - 3 ^ ff_sz p) m)) (fc, nI S, fb, li, kn, st, wy, nw, th, tb, fr)) :
    wpX_through post (fc, nI S, fb, li, kn, st, wy, nw, th, tb, fr) (nI b) (nI p) (nI m) := by
  refine loop_0 (fun n i s => wX_through_3 post (nI b) (nI p) (nI m) fc (nI S) fb n (nI i) li kn st wy s th tb fr) (fun i s => ∀ j, j < i → s j = lN (ff_N δ 0 j)) 26 nw (lt_0 (p := fun j => nw j = lN (ff_N δ 0 j))) ?_ ?_
  · intro n s hs
    exact br_t (by decide) (ff_xth36 A O hst hwy hp hb hm hs h)
  · intro n i s hi hs ih
    refine br_f (nI_ge (b := 26) hi (by decide)) ?_
    rw [nI_clamp (by omega)]
    have key : ∀ x, x = lN (ff_N δ 0 i) → ∀ j, j < i + 1 → (vp_updL s i x) j = lN (ff_N δ 0 j) := by
      intro x hx j hj
      by_cases e : j = i
      · subst e
        rw [pk_uLs, hx]
      · rw [pk_uLn e]
        exact hs j (by omega)
    refine pk_eq i 0 (fun z => And.intro (vp_in_nI hi (by decide)) (nm_e (nm_r (nI_1 i) (ih _ (key _ ?_))))) (fun z => And.intro (vp_in_nI hi (by decide)) (nm_e (nm_r (nI_1 i) (ih _ (key _ ?_)))))
    · rw [ff_N_0, if_pos z]; rfl
    · rw [ff_N_0, if_neg z]; rfl
end
end
section
/-! the reference's helpers -/
def ff_B (ba : Nat → Int32) (p : Nat) : Bool := !(decide (ba p = 0))
theorem ff_B_f {ba : Nat → Int32} {p : Nat} (h : ba p = 0) : ff_B ba p = false := by unfold ff_B; rw [decide_eq_true h]; rfl
theorem ff_B_t {ba : Nat → Int32} {p : Nat} (h : ¬ ba p = 0) : ff_B ba p = true := by unfold ff_B; rw [decide_eq_false h]; rfl
def ff_lt (q : Nat) : Nat := if 2 < q ∧ q < 6 then 1 else if 8 < q ∧ q < 18 then 2 else if 26 < q ∧ q < 54 then 3 else if 80 < q ∧ q < 162 then 4 else 0
theorem ff_pc_cases (q : Nat) : (ff_pc q ∧ ff_lt q = ff_sz q) ∨ (¬ ff_pc q ∧ ff_lt q = 0) := by
  unfold ff_pc ff_lt ff_sz
  by_cases h1 : q < 6
  · rw [if_pos h1, if_neg (c := 8 < q ∧ q < 18) (by omega), if_neg (c := 26 < q ∧ q < 54) (by omega), if_neg (c := 80 < q ∧ q < 162) (by omega), Nat.pow_one]
    by_cases h : 2 < q ∧ q < 6
    · rw [if_pos h]; exact Or.inl ⟨by omega, rfl⟩
    · rw [if_neg h]; exact Or.inr ⟨by omega, rfl⟩
  · rw [if_neg h1, if_neg (c := 2 < q ∧ q < 6) (by omega)]
    by_cases h2 : q < 18
    · rw [if_pos h2, if_neg (c := 26 < q ∧ q < 54) (by omega), if_neg (c := 80 < q ∧ q < 162) (by omega), show 3 ^ 2 = 9 from rfl]
      by_cases h : 8 < q ∧ q < 18
      · rw [if_pos h]; exact Or.inl ⟨by omega, rfl⟩
      · rw [if_neg h]; exact Or.inr ⟨by omega, rfl⟩
    · rw [if_neg h2, if_neg (c := 8 < q ∧ q < 18) (by omega)]
      by_cases h3 : q < 54
      · rw [if_pos h3, if_neg (c := 80 < q ∧ q < 162) (by omega), show 3 ^ 3 = 27 from rfl]
        by_cases h : 26 < q ∧ q < 54
        · rw [if_pos h]; exact Or.inl ⟨by omega, rfl⟩
        · rw [if_neg h]; exact Or.inr ⟨by omega, rfl⟩
      · rw [if_neg h3, if_neg (c := 26 < q ∧ q < 54) (by omega), show 3 ^ 4 = 81 from rfl]
        by_cases h : 80 < q ∧ q < 162
        · rw [if_pos h]; exact Or.inl ⟨by omega, rfl⟩
        · rw [if_neg h]; exact Or.inr ⟨by omega, rfl⟩
section
variable {fh : Int32} {ba : Nat → Int32} {n2 la : Nat → Int64}
theorem ff_ypow {post : Int32 → Prop} {n : Nat} (hn : n ≤ 10) (h : post (nI (3 ^ n))) : wpY_power post (fh, ba, n2, la) (nI n) :=
  ff_upE (fun m k => wY_power_4 post (nI n) fh ba n2 la m (nI (3 ^ k)) (nI k)) (fun _ => True) n 0 (Nat.zero_le n) trivial
    (fun m _ => br_t (nI_le (Nat.le_refl n) (by omega)) h)
    (fun m k hk _ ih => br_f (nI_ge hk (by omega)) (nm_r (e' := nI (3 ^ (k + 1))) ((pk_mul 3 (3 ^ k)).trans (by rw [Nat.mul_comm]; rfl)) (nm_r (nI_1 k) (ih trivial))))
theorem ff_ylet {post : Int32 → Prop} {q : Nat} (hq : q < 2 ^ 31) (h : post (nI (ff_lt q))) : wpY_letters post (fh, ba, n2, la) (nI q) := by
  have k4 : ¬ (2 < q ∧ q < 6) → ¬ (8 < q ∧ q < 18) → ¬ (26 < q ∧ q < 54) → wY_letters_41 post (nI q) fh ba n2 la := by
    intro a b c
    unfold ff_lt at h
    rw [if_neg a, if_neg b, if_neg c] at h
    unfold wY_letters_41
    refine pk_le q 80 (fun z => ?_) (fun z => pk_le 162 q (fun y => ?_) (fun y => ?_))
    · rw [if_neg (by omega)] at h; exact h
    · rw [if_neg (by omega)] at h; exact h
    · rw [if_pos ⟨z, y⟩] at h; exact h
  have k3 : ¬ (2 < q ∧ q < 6) → ¬ (8 < q ∧ q < 18) → wY_letters_27 post (nI q) fh ba n2 la := by
    intro a b
    unfold wY_letters_27
    refine pk_le q 26 (fun z => k4 a b (by omega)) (fun z => pk_le 54 q (fun y => k4 a b (by omega)) (fun y => ?_))
    unfold ff_lt at h
    rw [if_neg a, if_neg b, if_pos ⟨z, y⟩] at h
    exact h
  have k2 : ¬ (2 < q ∧ q < 6) → wY_letters_13 post (nI q) fh ba n2 la := by
    intro a
    unfold wY_letters_13
    refine pk_le q 8 (fun z => k3 a (by omega)) (fun z => pk_le 18 q (fun y => k3 a (by omega)) (fun y => ?_))
    unfold ff_lt at h
    rw [if_neg a, if_pos ⟨z, y⟩] at h
    exact h
  refine pk_le q 2 (fun z => k2 (by omega)) (fun z => pk_le 6 q (fun y => k2 (by omega)) (fun y => ?_))
  unfold ff_lt at h
  rw [if_pos ⟨z, y⟩] at h
  exact h
theorem ff_yletn {post : Int32 → Prop} {p : Int32} (hp : p < 0) (h : post 0) : wpY_letters post (fh, ba, n2, la) p := by
  have lt : ∀ x : Int32, 0 ≤ x → p ≤ x := fun x hx => Int32.le_of_lt (Int32.lt_of_lt_of_le hp hx)
  refine br_t (lt _ (by decide)) ?_
  unfold wY_letters_13
  refine br_t (lt _ (by decide)) ?_
  unfold wY_letters_27
  refine br_t (lt _ (by decide)) ?_
  unfold wY_letters_41
  exact br_t (lt _ (by decide)) h
theorem ff_ylen0 {post : Int32 → Prop} {x : Int32} (hx : x < 0 ∨ (¬ x < 0 ∧ 9 < x)) (h : post 1) : wpY_badLength post (fh, ba, n2, la) x := by
  rcases hx with z | ⟨z, y⟩
  · exact br_t z h
  · exact br_f z (br_f (Int32.not_le.mpr y) h)
theorem ff_ylen1 {post : Int32 → Prop} {n : Nat} (hn : n ≤ 9) (h : post 0) : wpY_badLength post (fh, ba, n2, la) (nI n) :=
  br_f (nI_pos (by omega)) (br_t (nI_le (b := 9) hn (by decide)) h)
theorem ff_ycode0 {post : Int32 → Prop} {n : Nat} {y : Int32} (hn : n ≤ 9) (hy : y < 0 ∨ (¬ y < 0 ∧ ¬ y < nI (3 ^ n))) (h : post 1) : wpY_badCode post (fh, ba, n2, la) (nI n) y := by
  rcases hy with z | ⟨z, w⟩
  · exact br_t z h
  · exact br_f z (ff_ypow (by omega) (br_f w h))
theorem ff_ycode1 {post : Int32 → Prop} {n c : Nat} (hn : n ≤ 9) (hc : c < 3 ^ n) (h : post 0) : wpY_badCode post (fh, ba, n2, la) (nI n) (nI c) := by
  have h9 := ff_le9 hn
  exact br_f (nI_pos (by omega)) (ff_ypow (by omega) (br_t (nI_lt hc (by omega)) h))
theorem ff_y71 {post : Int32 → Prop} {J5 : Int32 → Int32 → Prop} {c n : Nat} (hc : c < 2 ^ 31) (hn : n < 100) (h0 : 3 < n + 1 → ff_B ba (81 + c % 81) = true → post 0) (hJ : (3 < n + 1 → ff_B ba (81 + c % 81) = false) → J5 (nI (c / 3)) (nI n)) :
    wY_good_71 post J5 (nI c) (nI (n + 1)) fh ba n2 la := by
  have e : (81 : Int32) + (nI c - nI c / 81 * 81) = nI (81 + c % 81) := ff_end (a := 81) (by decide) hc (by decide)
  have d : nI c / 3 = nI (c / 3) := pk_div (d := 3) hc (by decide) (by decide)
  unfold wY_good_71
  rw [e, nI_clamp (by omega), d]
  refine pk_le (n + 1) 3 (fun z => And.intro (by decide) (nm_e (nm_r (pk_m1 n) (hJ (fun y => by omega))))) (fun z => And.intro (by decide) (And.intro (vp_in_nI (by omega) (by decide)) (br_c (fun y => And.intro (by decide) (nm_e (nm_r (pk_m1 n) (hJ (fun _ => ff_B_f y))))) (fun y => h0 z (ff_B_t y)))))
theorem ff_y48 {post : Int32 → Prop} {J5 : Int32 → Int32 → Prop} {c n : Nat} (hc : c < 2 ^ 31) (hn : n < 100) (h0 : 2 < n + 1 → ff_B ba (27 + c % 27) = true → post 0) (hJ : (2 < n + 1 → ff_B ba (27 + c % 27) = false) → wY_good_71 post J5 (nI c) (nI (n + 1)) fh ba n2 la) :
    wY_good_48 post J5 (nI c) (nI (n + 1)) fh ba n2 la := by
  have e : (27 : Int32) + (nI c - nI c / 27 * 27) = nI (27 + c % 27) := ff_end (a := 27) (by decide) hc (by decide)
  unfold wY_good_48
  rw [e, nI_clamp (by omega)]
  refine pk_le (n + 1) 2 (fun z => hJ (fun y => by omega)) (fun z => And.intro (by decide) (And.intro (vp_in_nI (by omega) (by decide)) (br_c (fun y => hJ (fun _ => ff_B_f y)) (fun y => h0 z (ff_B_t y)))))
theorem ff_Ef {B : Nat → Bool} {n c : Nat} (h : ¬ ff_E B n c = true) (m : Nat) : (ff_E B n c && ff_gd B m (c / 3)) = false := by
  cases e : ff_E B n c with
  | false => rfl
  | true => exact absurd e h
theorem ff_ygd {post : Int32 → Prop} : ∀ n c, n < 100 → c < 2 ^ 31 → (ff_gd (ff_B ba) n c = true → post 1) → (ff_gd (ff_B ba) n c = false → post 0) → ∀ f, n < f → wY_good_5 post fh ba n2 la f (nI c) (nI n) := by
  intro n
  induction n with
  | zero =>
    intro c _ _ h1 _ f hf
    obtain ⟨f, rfl⟩ : ∃ g, f = g + 1 := ⟨f - 1, by omega⟩
    exact br_t (by decide) (h1 rfl)
  | succ n ih =>
    intro c hn hc h1 h0 f hf
    obtain ⟨f, rfl⟩ : ∃ g, f = g + 1 := ⟨f - 1, by omega⟩
    have bad : ¬ ff_E (ff_B ba) (n + 1) c = true → post 0 := fun h => h0 (ff_Ef h n)
    have e3 : (3 : Int32) + (nI c - nI c / 3 * 3) = nI (3 + c % 3) := ff_end (a := 3) (by decide) hc (by decide)
    have e9 : (9 : Int32) + (nI c - nI c / 9 * 9) = nI (9 + c % 9) := ff_end (a := 9) (by decide) hc (by decide)
    refine br_f (nI_nle (by omega) (by omega)) ?_
    rw [e3, e9, nI_clamp (n := 3 + c % 3) (by omega), nI_clamp (n := 9 + c % 9) (by omega)]
    refine And.intro (by decide) (And.intro (vp_in_nI (by omega) (by decide)) (br_c (fun y3 => ?_) (fun y3 => bad (fun h => ?_))))
    · have g48 : (1 < n + 1 → ff_B ba (9 + c % 9) = false) → wY_good_48 post (wY_good_5 post fh ba n2 la f) (nI c) (nI (n + 1)) fh ba n2 la := by
        intro y9
        refine ff_y48 hc (by omega) (fun z y => bad (fun h => ?_)) (fun y27 => ff_y71 hc (by omega) (fun z y => bad (fun h => ?_)) (fun y81 => ?_))
        · have := ((ff_E_iff _ _ _).mp h).2.2.1 z
          rw [y] at this
          cases this
        · have := ((ff_E_iff _ _ _).mp h).2.2.2 z
          rw [y] at this
          cases this
        · have hE : ff_E (ff_B ba) (n + 1) c = true := (ff_E_iff _ _ _).mpr ⟨ff_B_f y3, y9, y27, y81⟩
          refine ih (c / 3) (by omega) (by omega) (fun g => h1 ?_) (fun g => h0 ?_) f (by omega)
          · rw [ff_gd_s, hE, g]; rfl
          · rw [ff_gd_s, hE, g]; rfl
      refine pk_le (n + 1) 1 (fun z => g48 (fun y => by omega)) (fun z => And.intro (by decide) (And.intro (vp_in_nI (by omega) (by decide)) (br_c (fun y => g48 (fun _ => ff_B_f y)) (fun y => bad (fun h => ?_)))))
      have := ((ff_E_iff _ _ _).mp h).2.1 z
      rw [ff_B_t y] at this
      cases this
    · have := ((ff_E_iff _ _ _).mp h).1
      rw [ff_B_t y3] at this
      cases this
theorem ff_ygood {post : Int32 → Prop} {n c : Nat} (hn : n < 100) (hc : c < 2 ^ 31) (h1 : ff_gd (ff_B ba) n c = true → post 1) (h0 : ff_gd (ff_B ba) n c = false → post 0) : wpY_good post (fh, ba, n2, la) (nI n) (nI c) :=
  ⟨n + 1, ff_ygd n c hn hc h1 h0 (n + 1) (by omega)⟩
end
end
section
/-! the reference's counting loops -/
theorem ff_R_t {B : Nat → Bool} {n c : Nat} (g : ff_gd B n c = true) : ff_R B n (c + 1) = ff_R B n c + 1 := by rw [ff_R_s, ff_gn_t g]
theorem ff_R_f {B : Nat → Bool} {n c : Nat} (g : ff_gd B n c = false) : ff_R B n (c + 1) = ff_R B n c := by rw [ff_R_s, ff_gn_f g, Nat.add_zero (ff_R B n c)]
theorem ff_zs_sum : ∀ n c, ff_zs n c = ff_sm (fun i => if c / 3 ^ i % 3 = 0 then 1 else 0) n := by
  intro n
  induction n with
  | zero => intro c; rfl
  | succ n ih =>
    intro c
    rw [ff_sm_fst, ff_zs_s, ih, Nat.pow_zero, Nat.div_one, Nat.add_comm]
    congr 1
    apply ff_sm_congr
    intro i _
    rw [Nat.div_div_eq_div_mul, show 3 * 3 ^ i = 3 ^ (i + 1) by rw [ff_pw, Nat.mul_comm]]
section
variable {fh : Int32} {ba : Nat → Int32} {n2 la : Nat → Int64}
theorem ff_yplain {post : Int32 → Prop} {n : Nat} (hn : n ≤ 9) (h : post (nI (ff_G (ff_B ba) n))) : wpY_plainCount post (fh, ba, n2, la) (nI n) := by
  have h9 := ff_le9 hn
  refine ff_ypow (by omega) (ff_upE (fun m c => wY_plainCount_11 post (nI n) (nI (3 ^ n)) fh ba n2 la m (nI (ff_R (ff_B ba) n c)) (nI c)) (fun _ => True) (3 ^ n) 0 (Nat.zero_le _) trivial ?_ ?_)
  · intro m _
    exact br_t (nI_le (Nat.le_refl _) (by omega)) h
  · intro m c hc _ ih
    refine br_f (nI_ge hc (by omega)) (ff_ygood (by omega) (by omega) (fun g => br_f (by decide) (nm_r (nI_1 _) (nm_r (nI_1 c) ?_))) (fun g => br_t rfl (nm_r (nI_1 c) ?_)))
    · rw [← ff_R_t g]; exact ih trivial
    · rw [← ff_R_f g]; exact ih trivial
theorem ff_yrank {post : Int32 → Prop} {n x : Nat} (hn : n ≤ 9) (hx : x < 3 ^ n) (h : post (nI (ff_R (ff_B ba) n x))) : wpY_rank post (fh, ba, n2, la) (nI n) (nI x) := by
  have h9 := ff_le9 hn
  unfold wpY_rank
  dsimp only
  refine ff_ylen1 hn (br_t rfl (ff_ycode1 hn hx (br_t rfl (ff_upE (fun m c => wY_rank_27 post (nI n) (nI x) fh ba n2 la m (nI (ff_R (ff_B ba) n c)) (nI c)) (fun _ => True) x 0 (Nat.zero_le _) trivial ?_ ?_))))
  · intro m _
    exact br_t (nI_le (Nat.le_refl _) (by omega)) h
  · intro m c hc _ ih
    refine br_f (nI_ge hc (by omega)) (ff_ygood (by omega) (by omega) (fun g => br_f (by decide) (nm_r (nI_1 _) (nm_r (nI_1 c) ?_))) (fun g => br_t rfl (nm_r (nI_1 c) ?_)))
    · rw [← ff_R_t g]; exact ih trivial
    · rw [← ff_R_f g]; exact ih trivial
theorem ff_yallowed {post : Int32 → Prop} {n c : Nat} (hn : n ≤ 9) (hc : c < 3 ^ n) (h1 : ff_gd (ff_B ba) n c = true → post 1) (h0 : ff_gd (ff_B ba) n c = false → post 0) : wpY_allowed post (fh, ba, n2, la) (nI n) (nI c) := by
  have h9 := ff_le9 hn
  unfold wpY_allowed
  dsimp only
  exact ff_ylen1 hn (br_t rfl (ff_ycode1 hn hc (br_t rfl (ff_ygood (by omega) (by omega) (fun g => br_f (by decide) (h1 g)) (fun g => br_t rfl (h0 g))))))
theorem ff_yword {post : Int32 → Prop} {n : Nat} {y : Int32} (hn : n ≤ 9) (h1 : ∀ q i, y = nI i → ff_un (ff_B ba) n i q → post (nI q)) (h2 : (∀ q, q < 3 ^ n → ff_gd (ff_B ba) n q = true → y ≠ nI (ff_R (ff_B ba) n q)) → post (-2)) :
    wpY_word post (fh, ba, n2, la) (nI n) y := by
  have h9 := ff_le9 hn
  unfold wpY_word
  dsimp only
  refine ff_ylen1 hn (br_t rfl (ff_ypow (by omega) (ff_upE (fun m c => wY_word_22 post (nI n) y (nI (3 ^ n)) fh ba n2 la m (nI (ff_R (ff_B ba) n c)) (nI c)) (fun c => ∀ q, q < c → ff_gd (ff_B ba) n q = true → y ≠ nI (ff_R (ff_B ba) n q)) (3 ^ n) 0 (Nat.zero_le _) (fun q hq => absurd hq (Nat.not_lt_zero q)) ?_ ?_)))
  · intro m hI
    exact br_t (nI_le (Nat.le_refl _) (by omega)) (h2 hI)
  · intro m c hc hI ih
    refine br_f (nI_ge hc (by omega)) (ff_ygood (by omega) (by omega) (fun g => br_f (by decide) (br_c (fun e => h1 c _ e.symm ⟨hc, g, rfl⟩) (fun e => nm_r (nI_1 _) (nm_r (nI_1 c) ?_)))) (fun g => br_t rfl (nm_r (nI_1 c) ?_)))
    · rw [← ff_R_t g]
      apply ih
      intro q hq gq
      by_cases eq : q = c
      · subst eq
        exact fun z => e z.symm
      · exact hI q (by omega) gq
    · rw [← ff_R_f g]
      apply ih
      intro q hq gq
      by_cases eq : q = c
      · subst eq
        rw [g] at gq
        cases gq
      · exact hI q (by omega) gq
theorem ff_ynext {post : Int32 → Prop} {n : Nat} {y : Int32} (hn : n ≤ 9) (h1 : ∀ q, q < 3 ^ n → ff_gd (ff_B ba) n q = true → ¬ nI q ≤ y → (∀ c, c < q → ff_gd (ff_B ba) n c = true → nI c ≤ y) → post (nI q))
    (h2 : (∀ c, c < 3 ^ n → ff_gd (ff_B ba) n c = true → nI c ≤ y) → post (-2)) :
    wpY_next post (fh, ba, n2, la) (nI n) y := by
  have h9 := ff_le9 hn
  unfold wpY_next
  dsimp only
  refine ff_ylen1 hn (br_t rfl (ff_ypow (by omega) (ff_upE (fun m c => wY_next_19 post (nI n) y (nI (3 ^ n)) fh ba n2 la m (nI c)) (fun c => ∀ q, q < c → ff_gd (ff_B ba) n q = true → nI q ≤ y) (3 ^ n) 0 (Nat.zero_le _) (fun q hq => absurd hq (Nat.not_lt_zero q)) ?_ ?_)))
  · intro m hI
    exact br_t (nI_le (Nat.le_refl _) (by omega)) (h2 hI)
  · intro m c hc hI ih
    have nx : (ff_gd (ff_B ba) n c = true → nI c ≤ y) → ∀ q, q < c + 1 → ff_gd (ff_B ba) n q = true → nI q ≤ y := by
      intro hcy q hq gq
      by_cases eq : q = c
      · subst eq
        exact hcy gq
      · exact hI q (by omega) gq
    refine br_f (nI_ge hc (by omega)) (br_c (fun e => nm_r (nI_1 c) (ih (nx (fun _ => e)))) (fun e => ff_ygood (by omega) (by omega) (fun g => br_f (by decide) (h1 c hc g e hI)) (fun g => br_t rfl (nm_r (nI_1 c) (ih (nx (fun g2 => ?_)))))))
    rw [g] at g2
    cases g2
theorem ff_ybeg {post : Int32 → Prop} {n p : Nat} (hn : n ≤ 9) (hp : ff_pc p) (h : ff_sz p ≤ n → post (nI (ff_sm (fun d => ff_gn (ff_B ba) (ff_sz p + (n - ff_sz p)) ((p - 3 ^ ff_sz p) * 3 ^ (n - ff_sz p) + d)) (3 ^ (n - ff_sz p))))) (h0 : n < ff_sz p → post 0) :
    wpY_beginning post (fh, ba, n2, la) (nI n) (nI p) := by
  have hsz := ff_sz_in p
  have h162 := ff_pc_162 hp
  have hq := ff_pc_q hp
  have el : ff_lt p = ff_sz p := by
    rcases ff_pc_cases p with ⟨_, e⟩ | ⟨e, _⟩
    · exact e
    · exact absurd hp e
  unfold wpY_beginning
  dsimp only
  refine ff_ylen1 hn (br_t rfl (ff_ylet (by omega) ?_))
  rw [el]
  refine br_f (nI_ne0 (by omega) (by omega)) (pk_le (ff_sz p) n (fun z => ?_) h0)
  have hk : n - ff_sz p + ff_sz p = n := by omega
  have h9 := ff_le9 hn
  have hmul : 3 ^ ff_sz p * 3 ^ (n - ff_sz p) = 3 ^ n := by rw [← Nat.pow_add, Nat.add_comm, hk]
  have hle : (p - 3 ^ ff_sz p + 1) * 3 ^ (n - ff_sz p) ≤ 3 ^ n := by
    rw [← hmul]
    exact Nat.mul_le_mul_right _ hq
  rw [pk_sub z]
  refine ff_ypow (by omega) (ff_ypow (by omega) (nm_r (pk_sub hp.1) (nm_r (pk_mul _ _) ?_)))
  have hn3 : ff_sz p + (n - ff_sz p) = n := by omega
  rw [hn3] at h
  have e1 : (nI (p - 3 ^ ff_sz p) + 1) * nI (3 ^ (n - ff_sz p)) = nI ((p - 3 ^ ff_sz p) * 3 ^ (n - ff_sz p) + 3 ^ (n - ff_sz p)) := by
    rw [nI_1, pk_mul, Nat.succ_mul]
  rw [Nat.succ_mul] at hle
  generalize hA : (p - 3 ^ ff_sz p) * 3 ^ (n - ff_sz p) = a at h e1 hle ⊢
  generalize hL : 3 ^ (n - ff_sz p) = lw at h e1 hle ⊢
  refine ff_upE (fun m d => wY_beginning_58 post (nI n) (nI lw) (nI (p - 3 ^ ff_sz p)) fh ba n2 la m (nI (ff_sm (fun d => ff_gn (ff_B ba) n (a + d)) d)) (nI (a + d))) (fun _ => True) lw 0 (Nat.zero_le _) trivial ?_ ?_
  · intro m _
    refine br_t (by rw [e1]; exact nI_le (Nat.le_refl _) (by omega)) (h z)
  · intro m d hd _ ih
    refine br_f (by rw [e1]; exact nI_ge (by omega) (by omega)) (ff_ygood (by omega) (by omega) (fun g => br_f (by decide) (nm_r (nI_1 _) (nm_r (nI_1 (a + d)) ?_))) (fun g => br_t rfl (nm_r (nI_1 (a + d)) ?_)))
    · have := ih trivial
      rw [ff_sm_s, ff_gn_t g] at this
      exact this
    · have := ih trivial
      rw [ff_sm_s, ff_gn_f g] at this
      exact this
theorem ff_ystands {post : Int32 → Prop} {lf r p : Nat} (hlf : lf < 2 ^ 31) (hr : r < 2 ^ 31) (hp : ff_pc p) (h1 : ff_sz p ≤ lf ∧ r % 3 ^ ff_sz p = p - 3 ^ ff_sz p → post 1) (h0 : ¬ (ff_sz p ≤ lf ∧ r % 3 ^ ff_sz p = p - 3 ^ ff_sz p) → post 0) :
    wpY_stands post (fh, ba, n2, la) (nI lf) (nI r) (nI p) (nI (ff_sz p)) := by
  have hsz := ff_sz_in p
  have h162 := ff_pc_162 hp
  have h81 := ff_sz81 p
  have hp3 := ff_pos3 (ff_sz p)
  have hlt : r % 3 ^ ff_sz p < 3 ^ ff_sz p := Nat.mod_lt _ hp3
  refine ff_ypow (by omega) (pk_lt lf (ff_sz p) (fun z => h0 (fun y => by omega)) (fun z => br_f (nI_nle hp3 (by omega)) (And.intro (nI_ne0 hp3 (by omega)) ?_)))
  rw [pk_rem hr hp3 (by omega), pk_sub hp.1]
  exact pk_eq (r % 3 ^ ff_sz p) (p - 3 ^ ff_sz p) (fun y => h1 ⟨z, y⟩) (fun y => h0 (fun w => y w.2))
end
end
section
/-! the reference's further counting loops -/
theorem ff_lt_sz {p : Nat} (hp : ff_pc p) : ff_lt p = ff_sz p := by
  rcases ff_pc_cases p with ⟨_, e⟩ | ⟨e, _⟩
  · exact e
  · exact absurd hp e
theorem ff_dvk {c k : Nat} (hc : c < 2 ^ 31) : nI (c / 3 ^ k) / 3 = nI (c / 3 ^ (k + 1)) := by
  rw [← ff_dv3]
  exact pk_div (d := 3) (Nat.lt_of_le_of_lt (Nat.div_le_self _ _) hc) (by decide) (by decide)
theorem ff_rmk {c k : Nat} (hc : c < 2 ^ 31) : nI (c / 3 ^ k) - nI (c / 3 ^ k) / 3 * 3 = nI (c / 3 ^ k % 3) :=
  pk_rem (d := 3) (Nat.lt_of_le_of_lt (Nat.div_le_self _ _) hc) (by decide) (by decide)
section
variable {fh : Int32} {ba : Nat → Int32} {n2 la : Nat → Int64}
theorem ff_yzs {post : Int32 → Prop} {n c : Nat} (hn : n ≤ 9) (hc : c < 2 ^ 31) (h : post (nI (ff_zs n c))) : wpY_zeros post (fh, ba, n2, la) (nI n) (nI c) := by
  have key : ∃ m, wY_zeros_8 post (nI n) fh ba n2 la m (nI (c / 3 ^ 0)) (nI (ff_sm (fun i => if c / 3 ^ i % 3 = 0 then 1 else 0) 0)) (nI 0) := by
    refine ff_upE (fun m i => wY_zeros_8 post (nI n) fh ba n2 la m (nI (c / 3 ^ i)) (nI (ff_sm (fun i => if c / 3 ^ i % 3 = 0 then 1 else 0) i)) (nI i)) (fun _ => True) n 0 (Nat.zero_le n) trivial ?_ ?_
    · intro m _
      refine br_t (nI_le (Nat.le_refl n) (by omega)) ?_
      rw [← ff_zs_sum]
      exact h
    · intro m i hi _ ih
      refine br_f (nI_ge hi (by omega)) (And.intro (by decide) ?_)
      rw [ff_rmk hc, ff_dvk hc]
      have ih2 := ih trivial
      rw [ff_sm_s] at ih2
      refine pk_eq (c / 3 ^ i % 3) 0 (fun z => nm_r (nI_1 _) (And.intro (by decide) (nm_e (nm_r (nI_1 i) ?_)))) (fun z => And.intro (by decide) (nm_e (nm_r (nI_1 i) ?_)))
      · rw [if_pos z] at ih2; exact ih2
      · rw [if_neg z] at ih2; exact ih2
  rw [Nat.pow_zero, Nat.div_one] at key
  exact key
theorem ff_ycnw {post : Int32 → Prop} {n k : Nat} (hn : n ≤ 9) (hk : k ≤ 9) (h : post (nI (ff_sm (fun c => if ff_zs n c = k then ff_gn (ff_B ba) n c else 0) (3 ^ n)))) : wpY_countWith post (fh, ba, n2, la) (nI n) (nI k) := by
  have h9 := ff_le9 hn
  unfold wpY_countWith
  dsimp only
  refine ff_ylen1 hn (br_t rfl (br_f (nI_pos (by omega)) (br_t (nI_le (b := 9) hk (by decide)) (ff_ypow (by omega) (ff_upE (fun m c => wY_countWith_35 post (nI n) (nI k) (nI (3 ^ n)) fh ba n2 la m (nI (ff_sm (fun c => if ff_zs n c = k then ff_gn (ff_B ba) n c else 0) c)) (nI c)) (fun _ => True) (3 ^ n) 0 (Nat.zero_le _) trivial ?_ ?_)))))
  · intro m _
    exact br_t (nI_le (Nat.le_refl _) (by omega)) h
  · intro m c hc _ ih
    have hz := ff_zs_le n c
    have ih2 := ih trivial
    rw [ff_sm_s] at ih2
    refine br_f (nI_ge hc (by omega)) (ff_yzs hn (by omega) (pk_eq (ff_zs n c) k (fun z => ff_ygood (by omega) (by omega) (fun g => br_f (by decide) (nm_r (nI_1 _) (nm_r (nI_1 c) ?_))) (fun g => br_t rfl (nm_r (nI_1 c) ?_))) (fun z => nm_r (nI_1 c) ?_)))
    · rw [if_pos z, ff_gn_t g] at ih2; exact ih2
    · rw [if_pos z, ff_gn_f g] at ih2; exact ih2
    · rw [if_neg z] at ih2; exact ih2
theorem ff_yend {post : Int32 → Prop} {n p : Nat} (hn : n ≤ 9) (hp : ff_pc p) (h : post (nI (ff_sm (fun c => if ff_sz p ≤ n ∧ c % 3 ^ ff_sz p = p - 3 ^ ff_sz p then ff_gn (ff_B ba) n c else 0) (3 ^ n)))) : wpY_ending post (fh, ba, n2, la) (nI n) (nI p) := by
  have h9 := ff_le9 hn
  have hsz := ff_sz_in p
  have h162 := ff_pc_162 hp
  unfold wpY_ending
  dsimp only
  refine ff_ylen1 hn (br_t rfl (ff_ylet (by omega) ?_))
  rw [ff_lt_sz hp]
  refine br_f (nI_ne0 (by omega) (by omega)) (ff_ypow (by omega) (ff_upE (fun m c => wY_ending_36 post (nI n) (nI p) (nI (ff_sz p)) (nI (3 ^ n)) fh ba n2 la m (nI (ff_sm (fun c => if ff_sz p ≤ n ∧ c % 3 ^ ff_sz p = p - 3 ^ ff_sz p then ff_gn (ff_B ba) n c else 0) c)) (nI c)) (fun _ => True) (3 ^ n) 0 (Nat.zero_le _) trivial ?_ ?_))
  · intro m _
    exact br_t (nI_le (Nat.le_refl _) (by omega)) h
  · intro m c hc _ ih
    have ih2 := ih trivial
    rw [ff_sm_s] at ih2
    refine br_f (nI_ge hc (by omega)) (ff_ystands (by omega) (by omega) hp (fun z => br_f (by decide) (ff_ygood (by omega) (by omega) (fun g => br_f (by decide) (nm_r (nI_1 _) (nm_r (nI_1 c) ?_))) (fun g => br_t rfl (nm_r (nI_1 c) ?_)))) (fun z => br_t rfl (nm_r (nI_1 c) ?_)))
    · rw [if_pos z, ff_gn_t g] at ih2; exact ih2
    · rw [if_pos z, ff_gn_f g] at ih2; exact ih2
    · rw [if_neg z] at ih2; exact ih2
theorem ff_ypl {post : Int32 → Prop} {n c p : Nat} (hn : n ≤ 9) (hc : c < 2 ^ 31) (hp : ff_pc p) (h : post (nI (ff_pl (ff_sz p) (p - 3 ^ ff_sz p) n c))) : wpY_places post (fh, ba, n2, la) (nI n) (nI c) (nI p) (nI (ff_sz p)) := by
  have key := ff_dn (fun m k => wY_places_9 post (nI p) (nI (ff_sz p)) fh ba n2 la m (nI (c / 3 ^ (n - k))) (nI (ff_sm (fun i => if ff_sz p ≤ n - i ∧ (c / 3 ^ i) % 3 ^ ff_sz p = p - 3 ^ ff_sz p then 1 else 0) (n - k))) (nI k)) (fun k => k ≤ n)
    (fun m _ => br_t (by decide) (by rw [Nat.sub_zero, ← ff_pl_sum]; exact h))
    (fun m k hk ih => by
      have ih2 := ih (by omega)
      have e : n - k = n - (k + 1) + 1 := by omega
      rw [e, ff_sm_s, ← ff_dvk hc, show n - (n - (k + 1)) = k + 1 by omega] at ih2
      refine br_f (nI_nle (by omega) (by omega)) (ff_ystands (by omega) (Nat.lt_of_le_of_lt (Nat.div_le_self _ _) hc) hp (fun z => br_f (by decide) (nm_r (nI_1 _) (And.intro (by decide) (nm_e (nm_r (pk_m1 k) ?_))))) (fun z => br_t rfl (And.intro (by decide) (nm_e (nm_r (pk_m1 k) ?_)))))
      · rw [if_pos z] at ih2; exact ih2
      · rw [if_neg z] at ih2; exact ih2)
    (n + 1) n (by omega) (Nat.le_refl n)
  rw [Nat.sub_self, Nat.pow_zero, Nat.div_one] at key
  exact ⟨n + 1, key⟩
theorem ff_ystanding {post : Int32 → Prop} {n p : Nat} (hn : n ≤ 9) (hp : ff_pc p) (h : post (nI (ff_sm (fun c => ff_gn (ff_B ba) n c * ff_pl (ff_sz p) (p - 3 ^ ff_sz p) n c) (3 ^ n)))) : wpY_standing post (fh, ba, n2, la) (nI n) (nI p) := by
  have h9 := ff_le9 hn
  have hsz := ff_sz_in p
  have h162 := ff_pc_162 hp
  unfold wpY_standing
  dsimp only
  refine ff_ylen1 hn (br_t rfl (ff_ylet (by omega) ?_))
  rw [ff_lt_sz hp]
  refine br_f (nI_ne0 (by omega) (by omega)) (ff_ypow (by omega) (ff_upE (fun m c => wY_standing_36 post (nI n) (nI p) (nI (ff_sz p)) (nI (3 ^ n)) fh ba n2 la m (nI (ff_sm (fun c => ff_gn (ff_B ba) n c * ff_pl (ff_sz p) (p - 3 ^ ff_sz p) n c) c)) (nI c)) (fun _ => True) (3 ^ n) 0 (Nat.zero_le _) trivial ?_ ?_))
  · intro m _
    exact br_t (nI_le (Nat.le_refl _) (by omega)) h
  · intro m c hc _ ih
    have ih2 := ih trivial
    rw [ff_sm_s] at ih2
    refine br_f (nI_ge hc (by omega)) (ff_ygood (by omega) (by omega) (fun g => br_f (by decide) (ff_ypl hn (by omega) hp (nm_r (nI_add _ _) (nm_r (nI_1 c) ?_)))) (fun g => br_t rfl (nm_r (nI_1 c) ?_)))
    · rw [ff_gn_t g, Nat.one_mul] at ih2; exact ih2
    · rw [ff_gn_f g, Nat.zero_mul] at ih2; exact ih2
def ff_lg (B : Nat → Bool) (r : Nat) : Prop := r ≤ 9 ∧ (0 < r → 0 < ff_G B r) ∧ ∀ m, r < m → m ≤ 9 → ff_G B m = 0
theorem ff_lg_u {B : Nat → Bool} {r s : Nat} (h : ff_lg B r) (h' : ff_lg B s) : r = s := by
  rcases Nat.lt_trichotomy r s with z | z | z
  · have := h.2.2 s z h'.1
    have := h'.2.1 (by omega)
    omega
  · exact z
  · have := h'.2.2 r z h.1
    have := h.2.1 (by omega)
    omega
theorem ff_ylong {post : Int32 → Prop} (h : ∀ r, ff_lg (ff_B ba) r → post (nI r)) : wpY_longest post (fh, ba, n2, la) := by
  have key : ∀ f n r, n ≤ 10 → 10 - n < f → r < n → (0 < r → 0 < ff_G (ff_B ba) r) → (∀ m, r < m → m < n → ff_G (ff_B ba) m = 0) → wY_longest_4 post fh ba n2 la f (nI r) (nI n) := by
    intro f
    induction f with
    | zero => intro n r _ hf; omega
    | succ f ih =>
      intro n r hn hf hr h1 h2
      by_cases e : n = 10
      · subst e
        exact br_t (by decide) (h r ⟨by omega, h1, fun m a b => h2 m a (by omega)⟩)
      · have h9 := ff_le9 (n := n) (by omega)
        have hG := ff_G_le (ff_B ba) n
        refine br_f (nI_ge (b := 10) (by omega) (by decide)) (ff_yplain (by omega) (pk_le (ff_G (ff_B ba) n) 0 (fun z => nm_r (nI_1 n) (ih (n + 1) r (by omega) (by omega) (by omega) h1 (fun m a b => ?_))) (fun z => nm_r (nI_1 n) (ih (n + 1) n (by omega) (by omega) (by omega) (fun _ => z) (fun m a b => by omega)))))
        by_cases em : m = n
        · subst em
          omega
        · exact h2 m a (by omega)
  exact ⟨10, key 10 1 0 (by omega) (by omega) (by omega) (fun a => by omega) (fun m a b => by omega)⟩
theorem ff_ychoi {post : Int32 → Prop} {n c : Nat} (hn : n ≤ 9) (hc : c < 3 ^ n) (h : post (nI (ff_sm (fun l => ff_gn (ff_B ba) n c * ff_gn (ff_B ba) (n + 1) (3 * c + l)) 3))) : wpY_choices post (fh, ba, n2, la) (nI n) (nI c) := by
  have h9 := ff_le9 hn
  unfold wpY_choices
  dsimp only
  refine ff_ylen1 hn (br_t rfl (ff_ycode1 hn hc (br_t rfl (ff_upE (fun m l => wY_choices_27 post (nI n) (nI c) fh ba n2 la m (nI (ff_sm (fun l => ff_gn (ff_B ba) n c * ff_gn (ff_B ba) (n + 1) (3 * c + l)) l)) (nI l)) (fun _ => True) 3 0 (by decide) trivial ?_ ?_))))
  · intro m _
    exact br_t (by decide) h
  · intro m l hl _ ih
    have ih2 := ih trivial
    rw [ff_sm_s] at ih2
    refine br_f (nI_ge (b := 3) hl (by decide)) (ff_ygood (by omega) (by omega) (fun g => br_f (by decide) ?_) (fun g => br_t rfl (nm_r (nI_1 l) ?_)))
    · rw [ff_ix3, nI_1 n]
      refine ff_ygood (by omega) (by omega) (fun g2 => br_f (by decide) (nm_r (nI_1 _) (nm_r (nI_1 l) ?_))) (fun g2 => br_t rfl (nm_r (nI_1 l) ?_))
      · rw [show ff_gn (ff_B ba) n c * ff_gn (ff_B ba) (n + 1) (3 * c + l) = 1 by rw [ff_gn_t g, ff_gn_t g2]] at ih2; exact ih2
      · rw [show ff_gn (ff_B ba) n c * ff_gn (ff_B ba) (n + 1) (3 * c + l) = 0 by rw [ff_gn_f g2, Nat.mul_zero]] at ih2; exact ih2
    · rw [show ff_gn (ff_B ba) n c * ff_gn (ff_B ba) (n + 1) (3 * c + l) = 0 by rw [ff_gn_f g, Nat.zero_mul]] at ih2; exact ih2
theorem ff_ybw {post : Int32 → Prop} {n c : Nat} (hn : n ≤ 9) (hc : c < 2 ^ 31) (h : post (nI (ff_bw n c))) : wpY_backward post (fh, ba, n2, la) (nI n) (nI c) := by
  have key : ∃ m, wY_backward_8 post (nI n) fh ba n2 la m (nI (c / 3 ^ 0)) (nI (ff_bw 0 c)) (nI 0) := by
    refine ff_upE (fun m i => wY_backward_8 post (nI n) fh ba n2 la m (nI (c / 3 ^ i)) (nI (ff_bw i c)) (nI i)) (fun _ => True) n 0 (Nat.zero_le n) trivial ?_ ?_
    · intro m _
      exact br_t (nI_le (Nat.le_refl n) (by omega)) h
    · intro m i hi _ ih
      refine br_f (nI_ge hi (by omega)) (And.intro (by decide) ?_)
      rw [ff_rmk hc, ff_dvk hc, ff_ix3]
      exact nm_e (And.intro (by decide) (nm_e (nm_r (nI_1 i) (ih trivial))))
  rw [Nat.pow_zero, Nat.div_one] at key
  exact key
theorem ff_ymir {post : Int32 → Prop} {n : Nat} (hn : n ≤ 9) (h : post (nI (ff_sm (fun c => if ff_bw n c = c then ff_gn (ff_B ba) n c else 0) (3 ^ n)))) : wpY_mirrored post (fh, ba, n2, la) (nI n) := by
  have h9 := ff_le9 hn
  unfold wpY_mirrored
  dsimp only
  refine ff_ylen1 hn (br_t rfl (ff_ypow (by omega) (ff_upE (fun m c => wY_mirrored_21 post (nI n) (nI (3 ^ n)) fh ba n2 la m (nI (ff_sm (fun c => if ff_bw n c = c then ff_gn (ff_B ba) n c else 0) c)) (nI c)) (fun _ => True) (3 ^ n) 0 (Nat.zero_le _) trivial ?_ ?_)))
  · intro m _
    exact br_t (nI_le (Nat.le_refl _) (by omega)) h
  · intro m c hc _ ih
    have hb := ff_bw_lt n c
    have ih2 := ih trivial
    rw [ff_sm_s] at ih2
    refine br_f (nI_ge hc (by omega)) (ff_ybw hn (by omega) (pk_eq (ff_bw n c) c (fun z => ff_ygood (by omega) (by omega) (fun g => br_f (by decide) (nm_r (nI_1 _) (nm_r (nI_1 c) ?_))) (fun g => br_t rfl (nm_r (nI_1 c) ?_))) (fun z => nm_r (nI_1 c) ?_)))
    · rw [if_pos z, ff_gn_t g] at ih2; exact ih2
    · rw [if_pos z, ff_gn_f g] at ih2; exact ih2
    · rw [if_neg z] at ih2; exact ih2
end
end
section
/-! the reference's count beyond three letters -/
def ff_Nb (B : Nat → Bool) (n : Nat) (n2 : Nat → Int64) : Prop := ∀ j, j < 27 → n2 j = lN (ff_Nw B n j)
def ff_La (B : Nat → Bool) (n i l : Nat) (la : Nat → Int64) : Prop :=
  ∀ j, j < 27 → la j = lN (ff_sm (fun a => ff_Nw B n a * ff_sm (fun l => ff_gw B j a l) 3) i + ff_Nw B n i * ff_sm (fun l => ff_gw B j i l) l)
section
variable {fh : Int32} {ba : Nat → Int32} {n2 la : Nat → Int64}
theorem ff_yg31 {post : SY → Prop} {J23 : Int32 → (Nat → Int32) → (Nat → Int64) → (Nat → Int64) → Prop} {n i : Nat} (hi : i < 27) (hN : ff_Nb (ff_B ba) n n2) (hL : ff_La (ff_B ba) n i 0 la)
    (hJ : ∀ la', ff_La (ff_B ba) n (i + 1) 0 la' → J23 (nI (i + 1)) ba n2 la') : ∃ m, wY_grow_31 post J23 (nI i) fh m 0 ba n2 la := by
  refine loop_0 (fun m l s => wY_grow_31 post J23 (nI i) fh m (nI l) ba n2 s) (fun l s => ff_La (ff_B ba) n i l s) 3 la hL ?_ ?_
  · intro m s hs
    refine br_t (by decide) (nm_r (nI_1 i) (hJ s ?_))
    intro j hj
    rw [ff_sm_s, ff_sm_z, Nat.mul_zero, Nat.add_zero (_ + ff_Nw (ff_B ba) n i * _)]
    exact hs j hj
  · intro m l s hl hs ih
    have e27 : nI (3 * i + l) - nI (3 * i + l) / 27 * 27 = nI ((3 * i + l) % 27) := pk_rem (d := 27) (by omega) (by decide) (by decide)
    have hm : (3 * i + l) % 27 < 27 := Nat.mod_lt _ (by decide)
    refine br_f (nI_ge (b := 3) hl (by decide)) ?_
    rw [ff_ix3, e27, nI_clamp (n := (3 * i + l) % 27) (by omega), nI_clamp (n := i) (by omega)]
    refine ff_ygood (n := 4) (by omega) (by omega) (fun g => br_f (by decide) (And.intro (by decide) (And.intro (vp_in_nI hm (by decide)) (And.intro (vp_in_nI hi (by decide)) (And.intro (vp_in_nI hm (by decide)) (nm_e (nm_r (nI_1 l) (ih _ ?_)))))))) (fun g => br_t rfl (nm_r (nI_1 l) (ih s ?_)))
    · intro j hj
      rw [ff_sm_s, Nat.mul_add]
      by_cases e : j = (3 * i + l) % 27
      · rw [show ff_gw (ff_B ba) j i l = 1 from if_pos ⟨g, e.symm⟩, e, pk_uLs, hs _ hm, hN i hi, lN_add, Nat.mul_one, Nat.add_assoc]
      · rw [show ff_gw (ff_B ba) j i l = 0 from if_neg (fun w => e w.2.symm), pk_uLn e, hs j hj, Nat.mul_zero, Nat.add_zero (ff_Nw (ff_B ba) n i * ff_sm (fun l => ff_gw (ff_B ba) j i l) l)]
    · intro j hj
      rw [ff_sm_s, show ff_gw (ff_B ba) j i l = 0 from if_neg (fun w => by rw [g] at w; cases w.1), Nat.add_zero (ff_sm (fun l => ff_gw (ff_B ba) j i l) l)]
      exact hs j hj
theorem ff_yg23 {post : SY → Prop} {n : Nat} (hn : 3 ≤ n) (hN : ff_Nb (ff_B ba) n n2) (hL : ff_La (ff_B ba) n 0 0 la) (h : ∀ n2' la', ff_Nb (ff_B ba) (n + 1) n2' → post (fh, ba, n2', la')) :
    ∃ m, wY_grow_23 post fh m 0 ba n2 la := by
  refine loop_0 (fun m i s => wY_grow_23 post fh m (nI i) ba n2 s) (fun i s => ff_La (ff_B ba) n i 0 s) 27 la hL ?_ ?_
  · intro m s hs
    refine br_t (by decide) ?_
    refine loop_0 (fun m i b => wY_grow_85 post fh m (nI i) ba b s) (fun i b => ∀ j, j < i → b j = lN (ff_Nw (ff_B ba) (n + 1) j)) 27 n2 (lt_0 (p := fun j => n2 j = lN (ff_Nw (ff_B ba) (n + 1) j))) ?_ ?_
    · intro m b hb
      exact br_t (by decide) (h b s hb)
    · intro m i b hi hb ih
      refine br_f (nI_ge (b := 27) hi (by decide)) ?_
      rw [nI_clamp (by omega)]
      refine And.intro (vp_in_nI hi (by decide)) (And.intro (vp_in_nI hi (by decide)) (nm_e (nm_r (nI_1 i) (ih _ ?_))))
      intro j hj
      by_cases e : j = i
      · subst e
        rw [pk_uLs, hs j hi, ff_sm_z, Nat.mul_zero, Nat.add_zero (ff_sm _ _), ff_Nw_s (ff_B ba) hn]
      · rw [pk_uLn e]
        exact hb j (by omega)
  · intro m i s hi hs ih
    exact br_f (nI_ge (b := 27) hi (by decide)) (ff_yg31 hi hN hs ih)
theorem ff_ygrow {post : SY → Prop} {n : Nat} (hn : 3 ≤ n) (hN : ff_Nb (ff_B ba) n n2) (h : ∀ n2' la', ff_Nb (ff_B ba) (n + 1) n2' → post (fh, ba, n2', la')) :
    wpY_grow post (fh, ba, n2, la) := by
  refine loop_0 (fun m i s => wY_grow_2 post fh m (nI i) ba n2 s) (fun i s => ∀ j, j < i → s j = lN 0) 27 la (lt_0 (p := fun j => la j = lN 0)) ?_ ?_
  · intro m s hs
    refine br_t (by decide) (ff_yg23 hn hN ?_ h)
    intro j hj
    rw [hs j hj, ff_sm_z, ff_sm_z, Nat.mul_zero]
  · intro m i s hi hs ih
    refine br_f (nI_ge (b := 27) hi (by decide)) ?_
    rw [nI_clamp (by omega)]
    refine And.intro (vp_in_nI hi (by decide)) (nm_e (nm_r (nI_1 i) (ih _ ?_)))
    intro j hj
    by_cases e : j = i
    · subst e
      exact pk_uLs
    · rw [pk_uLn e]
      exact hs j (by omega)
theorem ff_yc82 {post : Int64 → SY → Prop} {n : Nat} (hN : ff_Nb (ff_B ba) n n2) (h : post (lN (ff_G (ff_B ba) n)) (fh, ba, n2, la)) : ∃ m, wY_count_82 post fh ba n2 la m 0 0 := by
  refine ff_upE (fun m i => wY_count_82 post fh ba n2 la m (lN (ff_sm (fun k => ff_Nw (ff_B ba) n k) i)) (nI i)) (fun _ => True) 27 0 (by decide) trivial ?_ ?_
  · intro m _
    refine br_t (by decide) ?_
    rw [ff_Nw_sum]
    exact h
  · intro m i hi _ ih
    refine br_f (nI_ge (b := 27) hi (by decide)) ?_
    rw [nI_clamp (by omega), hN i hi]
    exact And.intro (vp_in_nI hi (by decide)) (nm_r (lN_add _ _) (nm_r (nI_1 i) (ih trivial)))
theorem ff_yc62 {post : Int64 → SY → Prop} {n : Nat} (hn : 3 ≤ n) (hn2 : n ≤ 30) (hN : ff_Nb (ff_B ba) 3 n2) (h : ∀ n2 la, post (lN (ff_G (ff_B ba) n)) (fh, ba, n2, la)) : ∃ m, wY_count_62 post (nI n) m 3 fh ba n2 la := by
  refine ⟨n + 1, loop_i (fun m i (s : (Nat → Int64) × (Nat → Int64)) => wY_count_62 post (nI n) m (nI i) fh ba s.1 s.2) (fun i s => 3 ≤ i ∧ ff_Nb (ff_B ba) i s.1) n ?_ ?_ (n + 1) 3 (n2, la) hn (by omega) ⟨Nat.le_refl 3, hN⟩⟩
  · intro m s hs
    exact br_t (nI_le (Nat.le_refl n) (by omega)) (ff_yc82 hs.2 (h s.1 s.2))
  · intro m i s hi hs ih
    exact br_f (nI_ge hi (by omega)) (ff_ygrow hs.1 hs.2 (fun n2' la' hN' => nm_r (nI_1 i) (ih (n2', la') ⟨by omega, hN'⟩)))
theorem ff_ycount {post : Int64 → SY → Prop} {n : Nat} (hn : n ≤ 30) (h : ∀ n2 la, post (lN (ff_G (ff_B ba) n)) (fh, ba, n2, la)) : wpY_count post (fh, ba, n2, la) (nI n) := by
  refine br_f (nI_pos (by omega)) (br_t (nI_le (b := 30) hn (by decide)) (pk_le 4 n (fun z => ?_) (fun z => ?_)))
  · refine loop_0 (fun m i s => wY_count_28 post (nI n) fh m (nI i) ba s la) (fun i s => ∀ j, j < i → s j = lN (ff_gn (ff_B ba) 3 j)) 27 n2 (lt_0 (p := fun j => n2 j = lN (ff_gn (ff_B ba) 3 j))) ?_ ?_
    · intro m s hs
      exact br_t (by decide) (ff_yc62 (by omega) hn (fun j hj => by rw [hs j hj, ff_Nw_3 _ hj]) h)
    · intro m i s hi hs ih
      have key : ∀ x, x = lN (ff_gn (ff_B ba) 3 i) → ∀ j, j < i + 1 → (vp_updL s i x) j = lN (ff_gn (ff_B ba) 3 j) := by
        intro x hx j hj
        by_cases e : j = i
        · subst e
          rw [pk_uLs, hx]
        · rw [pk_uLn e]
          exact hs j (by omega)
      refine br_f (nI_ge (b := 27) hi (by decide)) ?_
      rw [nI_clamp (by omega)]
      refine ff_ygood (n := 3) (by omega) (by omega) (fun g => br_f (by decide) (And.intro (vp_in_nI hi (by decide)) (nm_e (nm_r (nI_1 i) (ih _ (key _ ?_)))))) (fun g => br_t rfl (And.intro (vp_in_nI hi (by decide)) (nm_e (nm_r (nI_1 i) (ih _ (key _ ?_))))))
      · rw [ff_gn_t g]; rfl
      · rw [ff_gn_f g]; rfl
  · have h9 := ff_le9 (n := n) (by omega)
    have hG := ff_G_le (ff_B ba) n
    refine ff_yplain (by omega) ?_
    rw [nI_l (by omega)]
    exact h n2 la
end
end
section
/-! the relation of the two states -/
def ff_Rl (c : Nat) (fs fb : Int32) (li st : Nat → Int32) (wy : Nat → Int64) (ba : Nat → Int32) : Prop :=
  ff_L c li (ff_B ba) ∧ (fb = 0 ∨ (fb = 1 ∧ ∃ S, fs = nI S ∧ ff_Bt (ff_B ba) S st wy))
/-- equal counts; the list holds the barred pieces, each once; what is built is right -/
def i_Rel (k : Nat) (u : SX) (v : SY) : Prop :=
  ∃ (c : Nat) (fs fb : Int32) (li kn st : Nat → Int32) (wy nw th : Nat → Int64) (tb fr ba : Nat → Int32) (n2 la : Nat → Int64),
    u = (nI c, fs, fb, li, kn, st, wy, nw, th, tb, fr) ∧ v = (nI c, ba, n2, la) ∧ ff_Rl c fs fb li st wy ba
theorem i_up {k : Nat} {u : SX} {v : SY} (h : i_Rel k u v) : i_Rel (k + 3) u v := h
theorem ff_el {k : Nat} {u : SX} {v : SY} {P : SX → SY → Prop}
    (h : ∀ (c : Nat) (fs fb : Int32) (li kn st : Nat → Int32) (wy nw th : Nat → Int64) (tb fr ba : Nat → Int32) (n2 la : Nat → Int64), ff_Rl c fs fb li st wy ba → P (nI c, fs, fb, li, kn, st, wy, nw, th, tb, fr) (nI c, ba, n2, la))
    (I : i_Rel k u v) : P u v := by
  obtain ⟨c, fs, fb, li, kn, st, wy, nw, th, tb, fr, ba, n2, la, rfl, rfl, h1⟩ := I
  exact h c fs fb li kn st wy nw th tb fr ba n2 la h1
section
variable {fs fb : Int32} {li kn st : Nat → Int32} {wy nw th : Nat → Int64} {tb fr ba : Nat → Int32} {n2 la : Nat → Int64} {c S : Nat}
theorem ff_rel {k : Nat} (h : ff_Rl c fs fb li st wy ba) : i_Rel k (nI c, fs, fb, li, kn, st, wy, nw, th, tb, fr) (nI c, ba, n2, la) :=
  ⟨c, fs, fb, li, kn, st, wy, nw, th, tb, fr, ba, n2, la, rfl, rfl, h⟩
theorem ff_relB {k : Nat} (h : ff_L c li (ff_B ba)) (hB : ff_Bt (ff_B ba) S st wy) : i_Rel k (nI c, nI S, 1, li, kn, st, wy, nw, th, tb, fr) (nI c, ba, n2, la) :=
  ff_rel ⟨h, Or.inr ⟨rfl, S, rfl, hB⟩⟩
theorem ff_wy0 (hB : ff_Bt (ff_B ba) S st wy) {n : Nat} (hn : n ≤ 30) : wy (26 * n) = lN (ff_G (ff_B ba) n) := by
  have := hB.2.2.2 n 0 hn (by decide)
  rw [ff_W_G hB.1 hB.2.1] at this
  exact this
end
theorem i_vc0 : wpX_init (fun u => wpY_init (fun v => i_Rel 0 u v)) := by
  refine ⟨0, 0, 0, fun _ => 0, fun _ => 0, fun _ => 0, fun _ => 0, fun _ => 0, fun _ => 0, fun _ => 0, fun _ => 0, fun _ => 0, fun _ => 0, fun _ => 0, rfl, rfl, ⟨by decide, fun i hi => absurd hi (Nat.not_lt_zero i), fun i j _ hj => absurd hj (Nat.not_lt_zero j), fun p _ => ⟨fun h => ?_, fun h => ?_⟩⟩, Or.inl rfl⟩
  · rw [ff_B_f rfl] at h
    cases h
  · obtain ⟨i, hi, _⟩ := h
    exact absurd hi (Nat.not_lt_zero i)
theorem ff_nb1 : ¬ vp_nar .boolean 1 = 0 := by
  have : vp_nar .boolean 1 = 1 := rfl
  rw [this]; decide
theorem ff_nb0 : vp_nar .boolean 0 = 0 := rfl
theorem ff_int (x : Int32) : x < 0 ∨ ∃ j : Nat, j < 2 ^ 31 ∧ x = nI j := by
  by_cases h : x < 0
  · exact Or.inl h
  · exact Or.inr (nI_of h)
theorem ff_L_add {c q : Nat} {li ba : Nat → Int32} (hL : ff_L c li (ff_B ba)) (hc : c < 6) (hq : ff_pc q) (hne : ∀ i, i < c → li i ≠ nI q) : ff_L (c + 1) (upd li c (nI q)) (ff_B (upd ba q (vp_nar .boolean 1))) := by
  obtain ⟨_, h2, h3, h4⟩ := hL
  have h162 := ff_pc_162 hq
  refine ⟨by omega, ?_, ?_, ?_⟩
  · intro i hi
    by_cases e : i = c
    · subst e
      exact ⟨q, hq, pk_us⟩
    · rw [pk_un e]
      exact h2 i (by omega)
  · intro i j hij hj
    rw [pk_un (f := li) (k := c) (j := i) (by omega)]
    by_cases e : j = c
    · subst e
      rw [pk_us]
      exact hne i hij
    · rw [pk_un e]
      exact h3 i j hij (by omega)
  · intro p hp
    by_cases e : p = q
    · subst e
      refine ⟨fun _ => ⟨c, by omega, pk_us⟩, fun _ => ?_⟩
      apply ff_B_t
      rw [pk_us]
      exact ff_nb1
    · have eB : ff_B (upd ba q (vp_nar .boolean 1)) p = ff_B ba p := by
        unfold ff_B
        rw [pk_un e]
      rw [eB, h4 p hp]
      constructor
      · rintro ⟨i, hi, ei⟩
        exact ⟨i, by omega, by rw [pk_un (by omega)]; exact ei⟩
      · rintro ⟨i, hi, ei⟩
        by_cases ec : i = c
        · subst ec
          rw [pk_us] at ei
          exact absurd (ff_nInj (by omega) (by omega) ei).symm e
        · rw [pk_un ec] at ei
          exact ⟨i, by omega, ei⟩
theorem i_vc_forbid {k : Nat} {u : SX} {v : SY} (I : i_Rel k u v) (hk : k + 3 ≤ 1536) (v1 : Int32) : wpX_forbid (fun r u' => wpY_forbid (fun r' v' => r' = r ∧ i_Rel (k + 3) u' v') v v1) u v1 := by
  refine ff_el (P := fun u v => wpX_forbid (fun r u' => wpY_forbid (fun r' v' => r' = r ∧ i_Rel (k + 3) u' v') v v1) u v1) ?_ I
  intro c fs fb li kn st wy nw th tb fr ba n2 la hR
  obtain ⟨hL, hb⟩ := hR
  have hc := hL.1
  unfold wpX_forbid wpY_forbid
  dsimp only
  rcases ff_int v1 with hn | ⟨q, hq, rfl⟩
  · exact ff_xpcn hn (br_t rfl (ff_yletn hn (br_t rfl ⟨rfl, ff_rel ⟨hL, hb⟩⟩)))
  · refine ff_xpc hq (fun hp => br_f (by decide) ?_) (fun hp => br_t rfl (ff_ylet hq ?_))
    · have h162 := ff_pc_162 hp
      have hsz := ff_sz_in q
      have el := ff_lt_sz hp
      refine ff_xplc hc (fun i hi e _ => br_f (nI_pos (by omega)) (ff_ylet hq ?_)) (fun hne => br_t (by decide) (pk_eq c 6 (fun z => ff_ylet hq ?_) (fun z => And.intro (vp_in_nI (by omega) (by decide)) (nm_e (nm_r (nI_1 c) (ff_ylet hq ?_))))))
      · have hB : ff_B ba q = true := (hL.2.2.2 q h162).mpr ⟨i, hi, e⟩
        rw [el, nI_clamp (by omega)]
        refine br_f (nI_ne0 (by omega) (by omega)) (And.intro (vp_in_nI (by omega) (by decide)) (br_f (fun z => ?_) ⟨rfl, ff_rel ⟨hL, hb⟩⟩))
        rw [ff_B_f z] at hB
        cases hB
      all_goals
        have h0 : ba q = 0 := by
          by_cases h0 : ba q = 0
          · exact h0
          · obtain ⟨i, hi, e⟩ := (hL.2.2.2 q h162).mp (ff_B_t h0)
            exact absurd e (hne i hi)
        rw [el, nI_clamp (n := q) (by omega)]
        refine br_f (nI_ne0 (by omega) (by omega)) (And.intro (vp_in_nI (by omega) (by decide)) (br_t h0 ?_))
      · subst z
        exact br_f (by decide) ⟨rfl, ff_rel ⟨hL, hb⟩⟩
      · refine br_t (nI_le (b := 5) (by omega) (by decide)) (And.intro (vp_in_nI (by omega) (by decide)) (nm_e (nm_r (nI_1 c) ⟨rfl, ?_⟩)))
        rw [nI_clamp (by omega)]
        exact ff_rel ⟨ff_L_add hL (by omega) hp hne, Or.inl rfl⟩
    · have el : ff_lt q = 0 := by
        rcases ff_pc_cases q with ⟨e, _⟩ | ⟨_, e⟩
        · exact absurd e hp
        · exact e
      rw [el]
      exact br_t rfl ⟨rfl, ff_rel ⟨hL, hb⟩⟩
theorem i_vc_pieces {k : Nat} {u : SX} {v : SY} (I : i_Rel k u v) (hk : k + 3 ≤ 1536) : wpX_pieces (fun r => wpY_pieces (fun r' => r' = r ∧ i_Rel (k + 3) u v) v) u := by
  have I2 : i_Rel (k + 3) u v := I
  obtain ⟨c, fs, fb, li, kn, st, wy, nw, th, tb, fr, ba, n2, la, rfl, rfl, h1⟩ := I
  exact ⟨rfl, I2⟩
end
section
/-! permit: the list closes up -/
section
variable {fs fb : Int32} {li kn st : Nat → Int32} {wy nw th : Nat → Int64} {tb fr : Nat → Int32}
theorem ff_xperm {post : Int32 → SX → Prop} {c a : Nat} (hc : c ≤ 6) (ha : a < c)
    (h : ∀ l2 : Nat → Int32, (∀ j, j + 1 < c → l2 j = if a ≤ j then li (j + 1) else li j) → post (nI (c - 1)) (nI (c - 1), fs, 0, l2, kn, st, wy, nw, th, tb, fr)) :
    ∃ n, wX_permit_16 post (nI c) fs fb n (nI (a + 1)) li kn st wy nw th tb fr := by
  refine ⟨c + 1, loop_i (fun n i s => wX_permit_16 post (nI c) fs fb n (nI i) s kn st wy nw th tb fr) (fun i s => a < i ∧ ∀ j, s j = if a ≤ j ∧ j + 1 < i then li (j + 1) else li j) c ?_ ?_ (c + 1) (a + 1) li (by omega) (by omega) ⟨by omega, fun j => (if_neg (by omega)).symm⟩⟩
  · intro n s hs
    refine br_t (nI_le (Nat.le_refl c) (by omega)) (nm_r (pk_sub (b := 1) (by omega)) (h s (fun j hj => ?_)))
    rw [hs.2 j]
    by_cases e : a ≤ j
    · rw [if_pos e, if_pos ⟨e, hj⟩]
    · rw [if_neg e, if_neg (fun z => e z.1)]
  · intro n i s hi hs ih
    have e1 : nI i - 1 = nI (i - 1) := pk_sub (b := 1) (by omega)
    refine br_f (nI_ge hi (by omega)) ?_
    rw [e1, nI_clamp (n := i - 1) (by omega), nI_clamp (n := i) (by omega)]
    refine And.intro (vp_in_nI (by omega) (by decide)) (And.intro (vp_in_nI (by omega) (by decide)) (nm_e (nm_r (nI_1 i) (ih _ ⟨by omega, fun j => ?_⟩))))
    by_cases e : j = i - 1
    · rw [e, pk_us, hs.2 i, if_neg (by omega), if_pos (by omega), show i - 1 + 1 = i by omega]
    · rw [pk_un e, hs.2 j]
      by_cases e2 : a ≤ j ∧ j + 1 < i
      · rw [if_pos e2, if_pos (by omega)]
      · rw [if_neg e2, if_neg (by omega)]
end
theorem ff_L_del {c a q : Nat} {li l2 ba : Nat → Int32} (hL : ff_L c li (ff_B ba)) (ha : a < c) (hq : q < 162) (ea : li a = nI q) (h2 : ∀ j, j + 1 < c → l2 j = if a ≤ j then li (j + 1) else li j) : ff_L (c - 1) l2 (ff_B (upd ba q (vp_nar .boolean 0))) := by
  obtain ⟨h1, hp, h3, h4⟩ := hL
  have at2 : ∀ j, j < c - 1 → ∃ i, i < c ∧ i ≠ a ∧ l2 j = li i ∧ (i = j ∧ j < a ∨ i = j + 1 ∧ a ≤ j) := by
    intro j hj
    by_cases e : a ≤ j
    · exact ⟨j + 1, by omega, by omega, by rw [h2 j (by omega), if_pos e], Or.inr ⟨rfl, e⟩⟩
    · exact ⟨j, by omega, by omega, by rw [h2 j (by omega), if_neg e], Or.inl ⟨rfl, by omega⟩⟩
  have inj : ∀ i j, i < c → j < c → i ≠ j → li i ≠ li j := by
    intro i j hi hj hne
    rcases Nat.lt_or_ge i j with z | z
    · exact h3 i j z hj
    · exact fun e => h3 j i (by omega) hi e.symm
  refine ⟨by omega, ?_, ?_, ?_⟩
  · intro j hj
    obtain ⟨i, hi, _, e, _⟩ := at2 j hj
    rw [e]
    exact hp i hi
  · intro j j' hjj hj'
    obtain ⟨i, hi, _, e, w⟩ := at2 j (by omega)
    obtain ⟨i', hi', _, e', w'⟩ := at2 j' hj'
    rw [e, e']
    exact inj i i' hi hi' (by omega)
  · intro p hp2
    by_cases e : p = q
    · subst e
      have eB : ff_B (upd ba p (vp_nar .boolean 0)) p = false := ff_B_f pk_us
      rw [eB]
      refine ⟨fun z => (by cases z), ?_⟩
      rintro ⟨j, hj, ej⟩
      obtain ⟨i, hi, hia, ei, _⟩ := at2 j hj
      rw [ei, ← ea] at ej
      exact absurd ej (inj i a hi ha hia)
    · have eB : ff_B (upd ba q (vp_nar .boolean 0)) p = ff_B ba p := by
        unfold ff_B
        rw [pk_un e]
      rw [eB, h4 p hp2]
      constructor
      · rintro ⟨i, hi, ei⟩
        have hia : i ≠ a := by
          intro z
          subst z
          rw [ea] at ei
          exact e (ff_nInj (by omega) (by omega) ei).symm
        rcases Nat.lt_or_ge i a with z | z
        · exact ⟨i, by omega, by rw [h2 i (by omega), if_neg (by omega)]; exact ei⟩
        · refine ⟨i - 1, by omega, ?_⟩
          rw [h2 (i - 1) (by omega), if_pos (by omega), show i - 1 + 1 = i by omega]
          exact ei
      · rintro ⟨j, hj, ej⟩
        obtain ⟨i, hi, _, ei, _⟩ := at2 j hj
        rw [ei] at ej
        exact ⟨i, hi, ej⟩
theorem i_vc_permit {k : Nat} {u : SX} {v : SY} (I : i_Rel k u v) (hk : k + 3 ≤ 1536) (v1 : Int32) : wpX_permit (fun r u' => wpY_permit (fun r' v' => r' = r ∧ i_Rel (k + 3) u' v') v v1) u v1 := by
  refine ff_el (P := fun u v => wpX_permit (fun r u' => wpY_permit (fun r' v' => r' = r ∧ i_Rel (k + 3) u' v') v v1) u v1) ?_ I
  intro c fs fb li kn st wy nw th tb fr ba n2 la hR
  obtain ⟨hL, hb⟩ := hR
  have hc := hL.1
  unfold wpX_permit wpY_permit
  dsimp only
  refine ff_xplc hc (fun a ha e _ => br_t (nI_pos' (by omega)) (nm_r (nI_1 a) ?_)) (fun hne => br_f (by decide) ?_)
  · obtain ⟨q, hq, eq⟩ := hL.2.1 a ha
    rw [e] at eq
    subst eq
    have h162 := ff_pc_162 hq
    have hsz := ff_sz_in q
    have hB : ff_B ba q = true := (hL.2.2.2 q h162).mpr ⟨a, ha, e⟩
    refine ff_xperm hc ha (fun l2 h2 => ff_ylet (by omega) ?_)
    rw [ff_lt_sz hq, nI_clamp (n := q) (by omega)]
    refine br_f (nI_ne0 (by omega) (by omega)) (And.intro (vp_in_nI (by omega) (by decide)) (br_f (fun z => ?_) (And.intro (vp_in_nI (by omega) (by decide)) (nm_e (nm_r (pk_sub (b := 1) (by omega)) ⟨rfl, ff_rel ⟨ff_L_del hL ha h162 e h2, Or.inl rfl⟩⟩)))))
    rw [ff_B_f z] at hB
    cases hB
  · rcases ff_int v1 with hn | ⟨q, hq, rfl⟩
    · exact ff_yletn hn (br_t rfl ⟨rfl, ff_rel ⟨hL, hb⟩⟩)
    · refine ff_ylet hq ?_
      rcases ff_pc_cases q with ⟨hp, el⟩ | ⟨_, el⟩
      · have h162 := ff_pc_162 hp
        have hsz := ff_sz_in q
        have h0 : ba q = 0 := by
          by_cases h0 : ba q = 0
          · exact h0
          · obtain ⟨i, hi, e⟩ := (hL.2.2.2 q h162).mp (ff_B_t h0)
            exact absurd e (hne i hi)
        rw [el, nI_clamp (n := q) (by omega)]
        exact br_f (nI_ne0 (by omega) (by omega)) (And.intro (vp_in_nI (by omega) (by decide)) (br_t h0 ⟨rfl, ff_rel ⟨hL, hb⟩⟩))
      · rw [el]
        exact br_t rfl ⟨rfl, ff_rel ⟨hL, hb⟩⟩
end
section
/-! refusals (printed by wip/C-3571/gen22.py) -/
theorem ff_pcI (p : Int32) : (p < 0 ∨ ∃ q : Nat, q < 2 ^ 31 ∧ p = nI q ∧ ¬ ff_pc q) ∨ ∃ q : Nat, ff_pc q ∧ p = nI q := by
  rcases ff_int p with h | ⟨q, hq, e⟩
  · exact Or.inl (Or.inl h)
  · by_cases hp : ff_pc q
    · exact Or.inr ⟨q, hp, e⟩
    · exact Or.inl (Or.inr ⟨q, hq, e, hp⟩)
theorem ff_xpc0 {post : Int32 → Prop} {p : Int32} (hp : p < 0 ∨ ∃ q : Nat, q < 2 ^ 31 ∧ p = nI q ∧ ¬ ff_pc q) (h : post 0) : wpX_isPiece post p := by
  rcases hp with z | ⟨q, hq, rfl, hn⟩
  · exact ff_xpcn z h
  · exact ff_xpc hq (fun z => absurd z hn) (fun _ => h)
theorem ff_xpc1 {post : Int32 → Prop} {q : Nat} (hp : ff_pc q) (h : post 1) : wpX_isPiece post (nI q) := by
  have h162 := ff_pc_162 hp
  exact ff_xpc (by omega) (fun _ => h) (fun z => absurd hp z)
section
variable {fh : Int32} {ba : Nat → Int32} {n2 la : Nat → Int64}
theorem ff_ylet0 {post : Int32 → Prop} {p : Int32} (hp : p < 0 ∨ ∃ q : Nat, q < 2 ^ 31 ∧ p = nI q ∧ ¬ ff_pc q) (h : post 0) : wpY_letters post (fh, ba, n2, la) p := by
  rcases hp with z | ⟨q, hq, rfl, hn⟩
  · exact ff_yletn z h
  · refine ff_ylet hq ?_
    rcases ff_pc_cases q with ⟨e, _⟩ | ⟨_, e⟩
    · exact absurd e hn
    · rw [e]; exact h
theorem ff_yb_allowed {post : Int32 → Prop} {x y : Int32} (hx : x < 0 ∨ (¬ x < 0 ∧ 9 < x)) (h : post (-1)) : wpY_allowed post (fh, ba, n2, la) x y := by
  unfold wpY_allowed
  dsimp only
  exact ff_ylen0 hx (br_f (by decide) h)
theorem ff_yb_countWith {post : Int32 → Prop} {x y : Int32} (hx : x < 0 ∨ (¬ x < 0 ∧ 9 < x)) (h : post (-1)) : wpY_countWith post (fh, ba, n2, la) x y := by
  unfold wpY_countWith
  dsimp only
  exact ff_ylen0 hx (br_f (by decide) h)
theorem ff_yb_rank {post : Int32 → Prop} {x y : Int32} (hx : x < 0 ∨ (¬ x < 0 ∧ 9 < x)) (h : post (-1)) : wpY_rank post (fh, ba, n2, la) x y := by
  unfold wpY_rank
  dsimp only
  exact ff_ylen0 hx (br_f (by decide) h)
theorem ff_yb_word {post : Int32 → Prop} {x y : Int32} (hx : x < 0 ∨ (¬ x < 0 ∧ 9 < x)) (h : post (-1)) : wpY_word post (fh, ba, n2, la) x y := by
  unfold wpY_word
  dsimp only
  exact ff_ylen0 hx (br_f (by decide) h)
theorem ff_yb_next {post : Int32 → Prop} {x y : Int32} (hx : x < 0 ∨ (¬ x < 0 ∧ 9 < x)) (h : post (-1)) : wpY_next post (fh, ba, n2, la) x y := by
  unfold wpY_next
  dsimp only
  exact ff_ylen0 hx (br_f (by decide) h)
theorem ff_yb_beginning {post : Int32 → Prop} {x y : Int32} (hx : x < 0 ∨ (¬ x < 0 ∧ 9 < x)) (h : post (-1)) : wpY_beginning post (fh, ba, n2, la) x y := by
  unfold wpY_beginning
  dsimp only
  exact ff_ylen0 hx (br_f (by decide) h)
theorem ff_yb_ending {post : Int32 → Prop} {x y : Int32} (hx : x < 0 ∨ (¬ x < 0 ∧ 9 < x)) (h : post (-1)) : wpY_ending post (fh, ba, n2, la) x y := by
  unfold wpY_ending
  dsimp only
  exact ff_ylen0 hx (br_f (by decide) h)
theorem ff_yb_standing {post : Int32 → Prop} {x y : Int32} (hx : x < 0 ∨ (¬ x < 0 ∧ 9 < x)) (h : post (-1)) : wpY_standing post (fh, ba, n2, la) x y := by
  unfold wpY_standing
  dsimp only
  exact ff_ylen0 hx (br_f (by decide) h)
theorem ff_yb_choices {post : Int32 → Prop} {x y : Int32} (hx : x < 0 ∨ (¬ x < 0 ∧ 9 < x)) (h : post (-1)) : wpY_choices post (fh, ba, n2, la) x y := by
  unfold wpY_choices
  dsimp only
  exact ff_ylen0 hx (br_f (by decide) h)
theorem ff_yb_mirrored {post : Int32 → Prop} {x : Int32} (hx : x < 0 ∨ (¬ x < 0 ∧ 9 < x)) (h : post (-1)) : wpY_mirrored post (fh, ba, n2, la) x := by
  unfold wpY_mirrored
  dsimp only
  exact ff_ylen0 hx (br_f (by decide) h)
theorem ff_yc_allowed {post : Int32 → Prop} {n : Nat} {y : Int32} (hn : n ≤ 9) (hy : y < 0 ∨ (¬ y < 0 ∧ ¬ y < nI (3 ^ n))) (h : post (-2)) : wpY_allowed post (fh, ba, n2, la) (nI n) y := by
  unfold wpY_allowed
  dsimp only
  exact ff_ylen1 hn (br_t rfl (ff_ycode0 hn hy (br_f (by decide) h)))
theorem ff_yc_rank {post : Int32 → Prop} {n : Nat} {y : Int32} (hn : n ≤ 9) (hy : y < 0 ∨ (¬ y < 0 ∧ ¬ y < nI (3 ^ n))) (h : post (-2)) : wpY_rank post (fh, ba, n2, la) (nI n) y := by
  unfold wpY_rank
  dsimp only
  exact ff_ylen1 hn (br_t rfl (ff_ycode0 hn hy (br_f (by decide) h)))
theorem ff_yc_choices {post : Int32 → Prop} {n : Nat} {y : Int32} (hn : n ≤ 9) (hy : y < 0 ∨ (¬ y < 0 ∧ ¬ y < nI (3 ^ n))) (h : post (-2)) : wpY_choices post (fh, ba, n2, la) (nI n) y := by
  unfold wpY_choices
  dsimp only
  exact ff_ylen1 hn (br_t rfl (ff_ycode0 hn hy (br_f (by decide) h)))
theorem ff_yp_beginning {post : Int32 → Prop} {n : Nat} {p : Int32} (hn : n ≤ 9) (hp : p < 0 ∨ ∃ q : Nat, q < 2 ^ 31 ∧ p = nI q ∧ ¬ ff_pc q) (h : post (-2)) : wpY_beginning post (fh, ba, n2, la) (nI n) p := by
  unfold wpY_beginning
  dsimp only
  exact ff_ylen1 hn (br_t rfl (ff_ylet0 hp (br_t rfl h)))
theorem ff_yp_ending {post : Int32 → Prop} {n : Nat} {p : Int32} (hn : n ≤ 9) (hp : p < 0 ∨ ∃ q : Nat, q < 2 ^ 31 ∧ p = nI q ∧ ¬ ff_pc q) (h : post (-2)) : wpY_ending post (fh, ba, n2, la) (nI n) p := by
  unfold wpY_ending
  dsimp only
  exact ff_ylen1 hn (br_t rfl (ff_ylet0 hp (br_t rfl h)))
theorem ff_yp_standing {post : Int32 → Prop} {n : Nat} {p : Int32} (hn : n ≤ 9) (hp : p < 0 ∨ ∃ q : Nat, q < 2 ^ 31 ∧ p = nI q ∧ ¬ ff_pc q) (h : post (-2)) : wpY_standing post (fh, ba, n2, la) (nI n) p := by
  unfold wpY_standing
  dsimp only
  exact ff_ylen1 hn (br_t rfl (ff_ylet0 hp (br_t rfl h)))
end
end
section
/-! the owed statements: allowed, count, countWith, rank -/
theorem i_vc_allowed {k : Nat} {u : SX} {v : SY} (I : i_Rel k u v) (hk : k + 3 ≤ 1536) (v1 : Int32) (v2 : Int32) : wpX_allowed (fun r u' => wpY_allowed (fun r' => r' = r ∧ i_Rel (k + 3) u' v) v v1 v2) u v1 v2 := by
  refine ff_el (P := fun u v => wpX_allowed (fun r u' => wpY_allowed (fun r' => r' = r ∧ i_Rel (k + 3) u' v) v v1 v2) u v1 v2) ?_ I
  intro c fs fb li kn st wy nw th tb fr ba n2 la hR
  obtain ⟨hL, hb⟩ := hR
  unfold wpX_allowed
  dsimp only
  rcases ff_len v1 with hx | ⟨n, hn, rfl⟩
  · exact ff_refu hx (br_f (by decide) (ff_yb_allowed hx ⟨rfl, ff_rel ⟨hL, hb⟩⟩))
  · have h9 := ff_le9 hn
    refine ff_refc hn (fun w hw e => br_t (by decide) ?_) (fun hy => br_f (by decide) (ff_yc_allowed hn hy ⟨rfl, ff_rel ⟨hL, hb⟩⟩))
    subst e
    refine ff_xbuild hL hb (fun S kn st wy hB => ?_)
    obtain ⟨A, O, hst, hwy⟩ := hB
    have h26 := ff_rd_26 A (Or.inl A.1) n w
    refine ff_xrd A hst (Or.inl A.1) (by omega) (by omega) (pk_eq (ff_rd (ff_dl st) 0 n w) 25 (fun z => ff_yallowed hn hw (fun g => ?_) (fun g => ⟨rfl, ff_relB hL ⟨A, O, hst, hwy⟩⟩)) (fun z => ff_yallowed hn hw (fun g => ⟨rfl, ff_relB hL ⟨A, O, hst, hwy⟩⟩) (fun g => absurd ((O n w).mpr g) z)))
    have := (O n w).mp z
    rw [g] at this
    cases this
theorem i_vc_count {k : Nat} {u : SX} {v : SY} (I : i_Rel k u v) (hk : k + 3 ≤ 1536) (v1 : Int32) : wpX_count (fun r u' => wpY_count (fun r' v' => r' = r ∧ i_Rel (k + 3) u' v') v v1) u v1 := by
  refine ff_el (P := fun u v => wpX_count (fun r u' => wpY_count (fun r' v' => r' = r ∧ i_Rel (k + 3) u' v') v v1) u v1) ?_ I
  intro c fs fb li kn st wy nw th tb fr ba n2 la hR
  obtain ⟨hL, hb⟩ := hR
  unfold wpX_count
  dsimp only
  rcases ff_int v1 with hx | ⟨n, hn, rfl⟩
  · refine br_t hx ?_
    unfold wpY_count
    exact br_t hx ⟨rfl, ff_rel ⟨hL, hb⟩⟩
  · refine br_f (nI_pos hn) (pk_le n 30 (fun z => ?_) (fun z => ?_))
    · refine ff_xbuild hL hb (fun S kn st wy hB => ?_)
      have e : (26 : Int32) * nI n = nI (26 * n) := pk_mul 26 n
      dsimp only
      rw [e, nI_clamp (by omega), ff_wy0 hB z]
      exact And.intro (vp_in_nI (by omega) (by decide)) (ff_ycount z (fun n2 la => ⟨rfl, ff_relB hL hB⟩))
    · unfold wpY_count
      exact br_f (nI_pos hn) (br_f (nI_ge (a := 30) z hn) ⟨rfl, ff_rel ⟨hL, hb⟩⟩)
theorem i_vc_countWith {k : Nat} {u : SX} {v : SY} (I : i_Rel k u v) (hk : k + 3 ≤ 1536) (v1 : Int32) (v2 : Int32) : wpX_countWith (fun r u' => wpY_countWith (fun r' => r' = r ∧ i_Rel (k + 3) u' v) v v1 v2) u v1 v2 := by
  refine ff_el (P := fun u v => wpX_countWith (fun r u' => wpY_countWith (fun r' => r' = r ∧ i_Rel (k + 3) u' v) v v1 v2) u v1 v2) ?_ I
  intro c fs fb li kn st wy nw th tb fr ba n2 la hR
  obtain ⟨hL, hb⟩ := hR
  unfold wpX_countWith
  dsimp only
  rcases ff_len v1 with hx | ⟨n, hn, rfl⟩
  · exact ff_xlen0 hx (br_t rfl (ff_yb_countWith hx ⟨rfl, ff_rel ⟨hL, hb⟩⟩))
  · refine ff_xlen1 hn (br_f (by decide) ?_)
    rcases ff_len v2 with hy | ⟨a, ha, rfl⟩
    · have yb : wpY_countWith (fun r' => r' = -2 ∧ i_Rel (k + 3) (nI c, fs, fb, li, kn, st, wy, nw, th, tb, fr) (nI c, ba, n2, la)) (nI c, ba, n2, la) (nI n) v2 := by
        unfold wpY_countWith
        dsimp only
        refine ff_ylen1 hn (br_t rfl ?_)
        rcases hy with z | ⟨z, w⟩
        · exact br_t z ⟨rfl, ff_rel ⟨hL, hb⟩⟩
        · exact br_f z (br_f (Int32.not_le.mpr w) ⟨rfl, ff_rel ⟨hL, hb⟩⟩)
      rcases hy with z | ⟨z, w⟩
      · exact br_t z yb
      · exact br_f z (br_f (Int32.not_le.mpr w) yb)
    · refine br_f (nI_pos (by omega)) (br_t (nI_le (b := 9) ha (by decide)) (ff_xbuild hL hb (fun S kn st wy hB => ?_)))
      exact ff_xcw28 hB.1 hB.2.1 hB.2.2.1 hn ha (fun tb fr => ff_ycnw hn ha ⟨rfl, ff_relB hL hB⟩)
theorem i_vc_rank {k : Nat} {u : SX} {v : SY} (I : i_Rel k u v) (hk : k + 3 ≤ 1536) (v1 : Int32) (v2 : Int32) : wpX_rank (fun r u' => wpY_rank (fun r' => r' = r ∧ i_Rel (k + 3) u' v) v v1 v2) u v1 v2 := by
  refine ff_el (P := fun u v => wpX_rank (fun r u' => wpY_rank (fun r' => r' = r ∧ i_Rel (k + 3) u' v) v v1 v2) u v1 v2) ?_ I
  intro c fs fb li kn st wy nw th tb fr ba n2 la hR
  obtain ⟨hL, hb⟩ := hR
  unfold wpX_rank
  dsimp only
  rcases ff_len v1 with hx | ⟨n, hn, rfl⟩
  · exact ff_refu hx (br_f (by decide) (ff_yb_rank hx ⟨rfl, ff_rel ⟨hL, hb⟩⟩))
  · refine ff_refc hn (fun w hw e => br_t (by decide) ?_) (fun hy => br_f (by decide) (ff_yc_rank hn hy ⟨rfl, ff_rel ⟨hL, hb⟩⟩))
    subst e
    refine ff_xbuild hL hb (fun S kn st wy hB => ?_)
    exact ff_xbel hB.1 hB.2.1 hB.2.2.1 hB.2.2.2 hn hw (ff_yrank hn hw ⟨rfl, ff_relB hL hB⟩)
end
section
/-! the owed statements: word, next -/
theorem ff_R_eq {B : Nat → Bool} {n t q : Nat} (h : t ≤ q) (hn : ∀ c, t ≤ c → c < q → ff_gd B n c = false) : ff_R B n q = ff_R B n t := by
  obtain ⟨d, rfl⟩ : ∃ d, q = t + d := ⟨q - t, by omega⟩
  unfold ff_R
  rw [ff_sm_app, ff_sm_0' (N := d) (fun i hi => ff_gn_f (hn (t + i) (by omega) (by omega))), Nat.add_zero (ff_sm (ff_gn B n) t)]
theorem ff_un_31 {B : Nat → Bool} {n i q : Nat} (hn : n ≤ 9) (h : ff_un B n i q) : i < 19683 := by
  have h9 := ff_le9 hn
  have a := ff_un_G h
  have b := ff_G_le B n
  omega
theorem i_vc_word {k : Nat} {u : SX} {v : SY} (I : i_Rel k u v) (hk : k + 3 ≤ 1536) (v1 : Int32) (v2 : Int32) : wpX_word (fun r u' => wpY_word (fun r' => r' = r ∧ i_Rel (k + 3) u' v) v v1 v2) u v1 v2 := by
  refine ff_el (P := fun u v => wpX_word (fun r u' => wpY_word (fun r' => r' = r ∧ i_Rel (k + 3) u' v) v v1 v2) u v1 v2) ?_ I
  intro c fs fb li kn st wy nw th tb fr ba n2 la hR
  obtain ⟨hL, hb⟩ := hR
  unfold wpX_word
  dsimp only
  rcases ff_len v1 with hx | ⟨n, hn, rfl⟩
  · exact ff_xlen0 hx (br_t rfl (ff_yb_word hx ⟨rfl, ff_rel ⟨hL, hb⟩⟩))
  · have h9 := ff_le9 hn
    have hG := ff_G_le (ff_B ba) n
    refine ff_xlen1 hn (br_f (by decide) (ff_xbuild hL hb (fun S kn st wy hB => ?_)))
    have e : (26 : Int32) * nI n = nI (26 * n) := pk_mul 26 n
    dsimp only
    rw [e, nI_clamp (by omega), ff_wy0 hB (by omega)]
    rcases ff_int v2 with hy | ⟨j, hj, rfl⟩
    · refine br_t hy (ff_yword hn (fun q i ei hu => ?_) (fun _ => ⟨rfl, ff_relB hL hB⟩))
      have := ff_un_31 hn hu
      rw [ei] at hy
      exact absurd hy (nI_pos (by omega))
    · refine br_f (nI_pos hj) (And.intro (vp_in_nI (by omega) (by decide)) ?_)
      rw [nI_l hj, pk_lLT (by omega) (by omega)]
      refine br_c (fun z => ff_xun hB.1 hB.2.1 hB.2.2.1 hB.2.2.2 hn z (fun q hq => ff_yword hn (fun q' i ei hu => ?_) (fun hno => ?_))) (fun z => ff_yword hn (fun q' i ei hu => ?_) (fun _ => ⟨rfl, ff_relB hL hB⟩))
      · have := ff_un_31 hn hu
        have e2 := ff_nInj hj (by omega) ei
        subst e2
        exact ⟨congrArg nI (ff_un_u hu hq), ff_relB hL hB⟩
      · exact absurd (by rw [hq.2.2]) (hno q hq.1 hq.2.1)
      · have := ff_un_31 hn hu
        have e2 := ff_nInj hj (by omega) ei
        subst e2
        exact absurd (ff_un_G hu) z
theorem ff_n45 {k : Nat} {li kn st : Nat → Int32} {wy nw th : Nat → Int64} {tb fr ba : Nat → Int32} {n2 la : Nat → Int64} {c S n t : Nat} {y : Int32} (hL : ff_L c li (ff_B ba)) (hB : ff_Bt (ff_B ba) S st wy) (hn : n ≤ 9) (ht : t ≤ 3 ^ n)
    (hy : ∀ q, q < 3 ^ n → (nI q ≤ y ↔ q < t)) :
    wX_next_45 (fun r u' => wpY_next (fun r' => r' = r ∧ i_Rel (k + 3) u' (nI c, ba, n2, la)) (nI c, ba, n2, la) (nI n) y) (nI n) (nI (ff_R (ff_B ba) n t)) (nI c) (nI S) 1 li kn st wy nw th tb fr := by
  have h9 := ff_le9 hn
  have hG := ff_G_le (ff_B ba) n
  have hRt := ff_R_le (ff_B ba) n t
  have e : (26 : Int32) * nI n = nI (26 * n) := pk_mul 26 n
  unfold wX_next_45
  rw [e, nI_clamp (by omega), ff_wy0 hB (by omega), nI_l (by omega), pk_lLE (by omega) (by omega)]
  refine And.intro (vp_in_nI (by omega) (by decide)) (br_c (fun z => ff_ynext hn (fun q hq g hlt hall => ?_) (fun _ => ⟨rfl, ff_relB hL hB⟩)) (fun z => ff_xun hB.1 hB.2.1 hB.2.2.1 hB.2.2.2 hn (by omega) (fun q hq => ff_ynext hn (fun q' hq' g hlt hall => ?_) (fun hno => ?_))))
  · rw [hy q hq] at hlt
    have a := ff_un_G (B := ff_B ba) (n := n) (q := q) ⟨hq, g, rfl⟩
    have b := ff_R_mono (ff_B ba) n (x := t) (y := q) (by omega)
    omega
  · rw [hy q' hq'] at hlt
    have eR : ff_R (ff_B ba) n q' = ff_R (ff_B ba) n t := by
      refine ff_R_eq (by omega) (fun w h1 h2 => ?_)
      cases gw : ff_gd (ff_B ba) n w with
      | false => rfl
      | true =>
        have := (hy w (by omega)).mp (hall w h2 gw)
        omega
    exact ⟨congrArg nI (ff_un_u ⟨hq', g, eR⟩ hq), ff_relB hL hB⟩
  · exfalso
    have eR : ff_R (ff_B ba) n (3 ^ n) = ff_R (ff_B ba) n t := by
      refine ff_R_eq ht (fun w h1 h2 => ?_)
      cases gw : ff_gd (ff_B ba) n w with
      | false => rfl
      | true =>
        have := (hy w h2).mp (hno w h2 gw)
        omega
    have eG : ff_R (ff_B ba) n (3 ^ n) = ff_G (ff_B ba) n := rfl
    omega
theorem i_vc_next {k : Nat} {u : SX} {v : SY} (I : i_Rel k u v) (hk : k + 3 ≤ 1536) (v1 : Int32) (v2 : Int32) : wpX_next (fun r u' => wpY_next (fun r' => r' = r ∧ i_Rel (k + 3) u' v) v v1 v2) u v1 v2 := by
  refine ff_el (P := fun u v => wpX_next (fun r u' => wpY_next (fun r' => r' = r ∧ i_Rel (k + 3) u' v) v v1 v2) u v1 v2) ?_ I
  intro c fs fb li kn st wy nw th tb fr ba n2 la hR
  obtain ⟨hL, hb⟩ := hR
  unfold wpX_next
  dsimp only
  rcases ff_len v1 with hx | ⟨n, hn, rfl⟩
  · exact ff_xlen0 hx (br_t rfl (ff_yb_next hx ⟨rfl, ff_rel ⟨hL, hb⟩⟩))
  · have h9 := ff_le9 hn
    have h0 := ff_pos3 n
    have e1 : nI (3 ^ n) - 1 = nI (3 ^ n - 1) := pk_sub (b := 1) h0
    refine ff_xlen1 hn (br_f (by decide) (ff_xbuild hL hb (fun S kn st wy hB => ?_)))
    refine ff_xpow (by omega) ?_
    rw [e1]
    rcases ff_int v2 with hy | ⟨j, hj, rfl⟩
    · refine br_t (Int32.lt_of_lt_of_le hy (nI_pos' (by omega))) (br_t hy (ff_n45 (t := 0) hL hB hn (Nat.zero_le _) (fun q hq => ⟨fun z => ?_, fun z => absurd z (Nat.not_lt_zero q)⟩)))
      exact absurd (Int32.lt_of_le_of_lt z hy) (nI_pos (by omega))
    · refine pk_lt j (3 ^ n - 1) (fun z => br_f (nI_pos hj) ?_) (fun z => ff_ynext hn (fun q hq g hlt hall => ?_) (fun _ => ⟨rfl, ff_relB hL hB⟩))
      · rw [nI_1]
        exact ff_xbel hB.1 hB.2.1 hB.2.2.1 hB.2.2.2 hn (by omega) (ff_n45 (t := j + 1) hL hB hn (by omega) (fun q hq => by rw [nI_leI (by omega) hj]; omega))
      · exact absurd (nI_le (by omega) hj) hlt
end
section
/-! the owed statements: beginning, ending, standing, longest, choices, mirrored -/
theorem i_vc_beginning {k : Nat} {u : SX} {v : SY} (I : i_Rel k u v) (hk : k + 3 ≤ 1536) (v1 : Int32) (v2 : Int32) : wpX_beginning (fun r u' => wpY_beginning (fun r' => r' = r ∧ i_Rel (k + 3) u' v) v v1 v2) u v1 v2 := by
  refine ff_el (P := fun u v => wpX_beginning (fun r u' => wpY_beginning (fun r' => r' = r ∧ i_Rel (k + 3) u' v) v v1 v2) u v1 v2) ?_ I
  intro c fs fb li kn st wy nw th tb fr ba n2 la hR
  obtain ⟨hL, hb⟩ := hR
  unfold wpX_beginning
  dsimp only
  rcases ff_len v1 with hx | ⟨n, hn, rfl⟩
  · exact ff_xlen0 hx (br_t rfl (ff_yb_beginning hx ⟨rfl, ff_rel ⟨hL, hb⟩⟩))
  · refine ff_xlen1 hn (br_f (by decide) ?_)
    rcases ff_pcI v2 with hp | ⟨p, hp, rfl⟩
    · exact ff_xpc0 hp (br_t rfl (ff_yp_beginning hn hp ⟨rfl, ff_rel ⟨hL, hb⟩⟩))
    · have h162 := ff_pc_162 hp
      have hsz := ff_sz_in p
      have hq := ff_pc_q hp
      refine ff_xpc1 hp (br_f (by decide) (ff_xbuild hL hb (fun S kn st wy hB => ?_)))
      dsimp only
      obtain ⟨A, O, hst, hwy⟩ := hB
      have hS := A.2.1
      have h26 := ff_rd_26 A (Or.inl A.1) (ff_sz p) (p - 3 ^ ff_sz p)
      refine ff_xsz (by omega) (pk_le (ff_sz p) n (fun z => ff_xpow (by omega) ?_) (fun z => ff_ybeg hn hp (fun y => by omega) (fun _ => ⟨rfl, ff_relB hL ⟨A, O, hst, hwy⟩⟩)))
      rw [pk_sub hp.1, pk_sub z]
      refine ff_xrd (s := 0) A hst (Or.inl A.1) (by omega) (by omega) (pk_eq (ff_rd (ff_dl st) 0 (ff_sz p) (p - 3 ^ ff_sz p)) 25 (fun y => ?_) (fun y => ?_))
      · refine ff_ybeg hn hp (fun _ => ⟨?_, ff_relB hL ⟨A, O, hst, hwy⟩⟩) (fun y => by omega)
        rw [ff_blk A O, ff_W_out (by omega)]
        rfl
      · rw [ff_ix26, nI_clamp (by omega), hwy (n - ff_sz p) _ (by omega) h26, lN_i]
        refine And.intro (vp_in_nI (by omega) (by decide)) (ff_ybeg hn hp (fun _ => ⟨?_, ff_relB hL ⟨A, O, hst, hwy⟩⟩) (fun y => by omega))
        rw [ff_blk A O]
theorem i_vc_ending {k : Nat} {u : SX} {v : SY} (I : i_Rel k u v) (hk : k + 3 ≤ 1536) (v1 : Int32) (v2 : Int32) : wpX_ending (fun r u' => wpY_ending (fun r' => r' = r ∧ i_Rel (k + 3) u' v) v v1 v2) u v1 v2 := by
  refine ff_el (P := fun u v => wpX_ending (fun r u' => wpY_ending (fun r' => r' = r ∧ i_Rel (k + 3) u' v) v v1 v2) u v1 v2) ?_ I
  intro c fs fb li kn st wy nw th tb fr ba n2 la hR
  obtain ⟨hL, hb⟩ := hR
  unfold wpX_ending
  dsimp only
  rcases ff_len v1 with hx | ⟨n, hn, rfl⟩
  · exact ff_xlen0 hx (br_t rfl (ff_yb_ending hx ⟨rfl, ff_rel ⟨hL, hb⟩⟩))
  · refine ff_xlen1 hn (br_f (by decide) ?_)
    rcases ff_pcI v2 with hp | ⟨p, hp, rfl⟩
    · exact ff_xpc0 hp (br_t rfl (ff_yp_ending hn hp ⟨rfl, ff_rel ⟨hL, hb⟩⟩))
    · have h162 := ff_pc_162 hp
      have hsz := ff_sz_in p
      have hq := ff_pc_q hp
      refine ff_xpc1 hp (br_f (by decide) (ff_xbuild hL hb (fun S kn st wy hB => ?_)))
      refine ff_xsz (by omega) (pk_le (ff_sz p) n (fun z => ?_) (fun z => ff_yend hn hp ⟨?_, ff_relB hL hB⟩))
      · rw [pk_sub z]
        refine ff_xthr (m := 0) hB.1 hB.2.1 hB.2.2.1 hB.2.2.2 hp (by omega) (by omega) (fun nw th => ?_)
        dsimp only
        rw [lN_i]
        refine ff_yend hn hp ⟨congrArg nI ?_, ff_relB hL hB⟩
        rw [← ff_plc (ff_B ba) (n - ff_sz p) (ff_sz p) 0 hq, show n - ff_sz p + ff_sz p + 0 = n by omega]
        apply ff_sm_congr
        intro w _
        rw [Nat.pow_zero, Nat.div_one]
        by_cases y : w % 3 ^ ff_sz p = p - 3 ^ ff_sz p
        · rw [if_pos ⟨z, y⟩, if_pos y]
        · rw [if_neg (fun x => y x.2), if_neg y]
      · rw [ff_sm_0' (fun w _ => if_neg (by omega))]
        rfl
theorem i_vc_standing {k : Nat} {u : SX} {v : SY} (I : i_Rel k u v) (hk : k + 3 ≤ 1536) (v1 : Int32) (v2 : Int32) : wpX_standing (fun r u' => wpY_standing (fun r' => r' = r ∧ i_Rel (k + 3) u' v) v v1 v2) u v1 v2 := by
  refine ff_el (P := fun u v => wpX_standing (fun r u' => wpY_standing (fun r' => r' = r ∧ i_Rel (k + 3) u' v) v v1 v2) u v1 v2) ?_ I
  intro c fs fb li kn st wy nw th tb fr ba n2 la hR
  obtain ⟨hL, hb⟩ := hR
  unfold wpX_standing
  dsimp only
  rcases ff_len v1 with hx | ⟨n, hn, rfl⟩
  · exact ff_xlen0 hx (br_t rfl (ff_yb_standing hx ⟨rfl, ff_rel ⟨hL, hb⟩⟩))
  · refine ff_xlen1 hn (br_f (by decide) ?_)
    rcases ff_pcI v2 with hp | ⟨p, hp, rfl⟩
    · exact ff_xpc0 hp (br_t rfl (ff_yp_standing hn hp ⟨rfl, ff_rel ⟨hL, hb⟩⟩))
    · have h162 := ff_pc_162 hp
      have hsz := ff_sz_in p
      have hq := ff_pc_q hp
      refine ff_xpc1 hp (br_f (by decide) (ff_xbuild hL hb (fun S kn st wy hB => ?_)))
      refine ff_xsz (by omega) ?_
      refine loop_0 (fun m b (s : (Nat → Int64) × (Nat → Int64)) => wX_standing_34 (fun r u' => wpY_standing (fun r' => r' = r ∧ i_Rel (k + 3) u' (nI c, ba, n2, la)) (nI c, ba, n2, la) (nI n) (nI p)) (nI n) (nI p) (nI (ff_sz p)) m (lN (ff_sm (fun b => ff_Th (ff_B ba) b (ff_sz p) (p - 3 ^ ff_sz p) (n - ff_sz p - b)) b)) (nI b) (nI c) (nI S) 1 li kn st wy s.1 s.2 tb fr) (fun _ _ => True) (n + 1 - ff_sz p) (nw, th) trivial ?_ ?_
      · intro m s _
        refine br_t (by rw [nI_add]; exact nI_lt (by omega) (by omega)) ?_
        rw [lN_i, ← ff_stand (ff_B ba) n (ff_sz p) hsz.1 hq]
        exact ff_ystanding hn hp ⟨rfl, ff_relB hL hB⟩
      · intro m b s hbn _ ih
        refine br_f (by rw [nI_add]; exact nI_nlt (by omega) (by omega)) ?_
        rw [pk_sub (show ff_sz p ≤ n by omega), pk_sub (show b ≤ n - ff_sz p by omega)]
        exact ff_xthr hB.1 hB.2.1 hB.2.2.1 hB.2.2.2 hp (by omega) (by omega) (fun nw th => nm_r (lN_add _ _) (nm_r (nI_1 b) (ih (nw, th) trivial)))
theorem i_vc_longest {k : Nat} {u : SX} {v : SY} (I : i_Rel k u v) (hk : k + 3 ≤ 1536) : wpX_longest (fun r u' => wpY_longest (fun r' => r' = r ∧ i_Rel (k + 3) u' v) v) u := by
  refine ff_el (P := fun u v => wpX_longest (fun r u' => wpY_longest (fun r' => r' = r ∧ i_Rel (k + 3) u' v) v) u) ?_ I
  intro c fs fb li kn st wy nw th tb fr ba n2 la hR
  obtain ⟨hL, hb⟩ := hR
  unfold wpX_longest
  dsimp only
  refine ff_xbuild hL hb (fun S kn st wy hB => ?_)
  have fin : ∀ n, ff_lg (ff_B ba) n → wpY_longest (fun r' => r' = nI n ∧ i_Rel (k + 3) (nI c, nI S, 1, li, kn, st, wy, nw, th, tb, fr) (nI c, ba, n2, la)) (nI c, ba, n2, la) :=
    fun n hn => ff_ylong (fun r hr => ⟨congrArg nI (ff_lg_u hr hn), ff_relB hL hB⟩)
  refine ⟨10, ff_dn (fun m n => wX_longest_7 (fun r u' => wpY_longest (fun r' => r' = r ∧ i_Rel (k + 3) u' (nI c, ba, n2, la)) (nI c, ba, n2, la)) (nI c) (nI S) 1 li kn st wy nw th tb fr m (nI n)) (fun n => n ≤ 9 ∧ ∀ m, n < m → m ≤ 9 → ff_G (ff_B ba) m = 0) ?_ ?_ 10 9 (by decide) ⟨Nat.le_refl 9, fun m a b => by omega⟩⟩
  · intro m hI
    exact br_t (by decide) (fin 0 ⟨hI.1, fun a => by omega, hI.2⟩)
  · intro m n hI ih
    have hn9 : n + 1 ≤ 9 := hI.1
    have h9 := ff_le9 hn9
    have hG := ff_G_le (ff_B ba) (n + 1)
    have e : (26 : Int32) * nI (n + 1) = nI (26 * (n + 1)) := pk_mul 26 (n + 1)
    have e0 : (0 : Int64) = lN 0 := rfl
    refine br_f (nI_nle (by omega) (by omega)) ?_
    rw [e, nI_clamp (by omega), ff_wy0 hB (by omega), e0, pk_lEQ (by omega) (by omega)]
    refine And.intro (vp_in_nI (by omega) (by decide)) (br_c (fun z => nm_r (pk_m1 n) (ih ⟨by omega, fun w a b => ?_⟩)) (fun z => fin (n + 1) ⟨hI.1, fun _ => by omega, hI.2⟩))
    by_cases ew : w = n + 1
    · rw [ew]; exact z
    · exact hI.2 w (by omega) b
theorem i_vc_choices {k : Nat} {u : SX} {v : SY} (I : i_Rel k u v) (hk : k + 3 ≤ 1536) (v1 : Int32) (v2 : Int32) : wpX_choices (fun r u' => wpY_choices (fun r' => r' = r ∧ i_Rel (k + 3) u' v) v v1 v2) u v1 v2 := by
  refine ff_el (P := fun u v => wpX_choices (fun r u' => wpY_choices (fun r' => r' = r ∧ i_Rel (k + 3) u' v) v v1 v2) u v1 v2) ?_ I
  intro c fs fb li kn st wy nw th tb fr ba n2 la hR
  obtain ⟨hL, hb⟩ := hR
  unfold wpX_choices
  dsimp only
  rcases ff_len v1 with hx | ⟨n, hn, rfl⟩
  · exact ff_refu hx (br_f (by decide) (ff_yb_choices hx ⟨rfl, ff_rel ⟨hL, hb⟩⟩))
  · have h9 := ff_le9 hn
    refine ff_refc hn (fun w hw e => br_t (by decide) ?_) (fun hy => br_f (by decide) (ff_yc_choices hn hy ⟨rfl, ff_rel ⟨hL, hb⟩⟩))
    subst e
    refine ff_xbuild hL hb (fun S kn st wy hB => ?_)
    dsimp only
    obtain ⟨A, O, hst, hwy⟩ := hB
    have h26 := ff_rd_26 A (Or.inl A.1) n w
    have e26 : (26 : Int32) + nI (ff_rd (ff_dl st) 0 n w) = nI (26 + ff_rd (ff_dl st) 0 n w) := nI_add 26 _
    refine ff_xrd A hst (Or.inl A.1) (by omega) (by omega) ?_
    rw [e26, nI_clamp (by omega)]
    refine pk_eq (ff_rd (ff_dl st) 0 n w) 25 (fun z => ff_ychoi hn hw ⟨?_, ff_relB hL ⟨A, O, hst, hwy⟩⟩) (fun z => And.intro (vp_in_nI (by omega) (by decide)) ?_)
    · have g := (O n w).mp z
      rw [ff_sm_0' (fun l _ => by rw [ff_gn_f g, Nat.zero_mul])]
      rfl
    · have ew := hwy 1 (ff_rd (ff_dl st) 0 n w) (by decide) h26
      rw [Nat.mul_one] at ew
      rw [ew, lN_i]
      refine ff_ychoi hn hw ⟨congrArg nI ?_, ff_relB hL ⟨A, O, hst, hwy⟩⟩
      rw [← ff_blk A O n 1 w]
      apply ff_sm_congr
      intro l _
      have g : ff_gd (ff_B ba) n w = true := by
        cases g : ff_gd (ff_B ba) n w with
        | true => rfl
        | false => exact absurd ((O n w).mpr g) z
      rw [ff_gn_t g, Nat.one_mul, Nat.pow_one, Nat.mul_comm]
theorem i_vc_mirrored {k : Nat} {u : SX} {v : SY} (I : i_Rel k u v) (hk : k + 3 ≤ 1536) (v1 : Int32) : wpX_mirrored (fun r u' => wpY_mirrored (fun r' => r' = r ∧ i_Rel (k + 3) u' v) v v1) u v1 := by
  refine ff_el (P := fun u v => wpX_mirrored (fun r u' => wpY_mirrored (fun r' => r' = r ∧ i_Rel (k + 3) u' v) v v1) u v1) ?_ I
  intro c fs fb li kn st wy nw th tb fr ba n2 la hR
  obtain ⟨hL, hb⟩ := hR
  unfold wpX_mirrored
  dsimp only
  rcases ff_len v1 with hx | ⟨n, hn, rfl⟩
  · exact ff_xlen0 hx (br_t rfl (ff_yb_mirrored hx ⟨rfl, ff_rel ⟨hL, hb⟩⟩))
  · have h9 := ff_le9 hn
    refine ff_xlen1 hn (br_f (by decide) (ff_xbuild hL hb (fun S kn st wy hB => ?_)))
    dsimp only
    have es : (nI n + 1) >>> ((1 : Int32) &&& 31) = nI ((n + 1) / 2) := by
      rw [nI_1]
      exact pk_shrN (by omega) _ 1 (by decide)
    obtain ⟨h, m, hhm, hh, e2⟩ : ∃ h m, n = h + m ∧ (h = m ∨ h = m + 1) ∧ (n + 1) / 2 = h := ⟨(n + 1) / 2, n / 2, by omega, by omega, rfl⟩
    have e26 : (26 : Int32) * nI h = nI (26 * h) := pk_mul 26 h
    have hGh := ff_G_le (ff_B ba) h
    have h9h := ff_le9 (n := h) (by omega)
    refine nm_r es ?_
    rw [e2, e26, nI_clamp (by omega), ff_wy0 hB (by omega), lN_i]
    refine And.intro (vp_in_nI (by omega) (by decide)) (nm_e ?_)
    subst hhm
    have key := ff_upE (fun f i => wX_mirrored_36 (fun r u' => wpY_mirrored (fun r' => r' = r ∧ i_Rel (k + 3) u' (nI c, ba, n2, la)) (nI c, ba, n2, la) (nI (h + m))) (nI (h + m)) (nI h) (nI (ff_G (ff_B ba) h)) (nI c) (nI S) 1 li kn st wy nw th tb fr f (nI (ff_M (ff_B ba) h (fun q => ff_gn (ff_B ba) (h + m) (q * 3 ^ m + ff_bw m (ff_rs (h + m) q))) i)) (nI i)) (fun _ => True) (ff_G (ff_B ba) h) 0 (Nat.zero_le _) trivial ?hx ?hs
    · rw [ff_M_0] at key
      exact key
    case hx =>
      intro f _
      refine br_t (nI_le (Nat.le_refl _) (by omega)) (ff_ymir hn ⟨congrArg nI ?_, ff_relB hL hB⟩)
      rw [ff_M_G, ff_mir (ff_B ba) h m hh]
    case hs =>
      intro f i hi _ ih
      refine br_f (nI_ge hi (by omega)) (ff_xun hB.1 hB.2.1 hB.2.2.1 hB.2.2.2 (by omega) hi (fun q hq => ?_))
      have hq3 := hq.1
      have hbw := ff_bw_lt m (ff_rs (h + m) q)
      have hw : q * 3 ^ m + ff_bw m (ff_rs (h + m) q) < 3 ^ (h + m) := by
        have a : (q + 1) * 3 ^ m ≤ 3 ^ h * 3 ^ m := Nat.mul_le_mul_right _ hq3
        rw [Nat.succ_mul, ← Nat.pow_add] at a
        omega
      have h26 := ff_rd_26 hB.1 (Or.inl hB.1.1) (h + m) (q * 3 ^ m + ff_bw m (ff_rs (h + m) q))
      have ih2 := ih trivial
      rw [ff_M_s (ff_B ba) h _ hq] at ih2
      refine ff_xref (by omega) (by omega) (ff_xrd hB.1 hB.2.2.1 (Or.inl hB.1.1) (by omega) (by omega) (pk_eq (ff_rd (ff_dl st) 0 (h + m) (q * 3 ^ m + ff_bw m (ff_rs (h + m) q))) 25 (fun z => ?_) (fun z => ?_)))
      · rw [ff_gn_f ((hB.2.1 _ _).mp z)] at ih2
        exact nm_r (Int32.add_zero _) (nm_r (nI_1 i) ih2)
      · have g : ff_gd (ff_B ba) (h + m) (q * 3 ^ m + ff_bw m (ff_rs (h + m) q)) = true := by
          cases g : ff_gd (ff_B ba) (h + m) (q * 3 ^ m + ff_bw m (ff_rs (h + m) q)) with
          | true => rfl
          | false => exact absurd ((hB.2.1 _ _).mpr g) z
        rw [ff_gn_t g] at ih2
        exact nm_r (nI_1 _) (nm_r (nI_1 i) ih2)
end
