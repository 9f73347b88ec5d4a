section
/-! rows of the kit's rows to paste -/
theorem pk_us {f : Nat → Int32} {k : Nat} {x : Int32} : upd f k x k = x := if_pos rfl
theorem pk_un {f : Nat → Int32} {k j : Nat} {x : Int32} (h : j ≠ k) : upd f k x j = f j := if_neg h
theorem pk_sub {a b : Nat} (h : b ≤ a) : nI a - nI b = nI (a - b) := by
  obtain ⟨c, rfl⟩ : ∃ c, a = c + b := ⟨a - b, by omega⟩
  rw [← nI_add, Int32.add_sub_cancel, Nat.add_sub_cancel]
theorem pk_m1 (n : Nat) : nI (n + 1) + (-1) = nI n := by
  rw [← nI_1, Int32.add_assoc, show (1 : Int32) + (-1) = 0 from rfl, Int32.add_zero]
theorem pk_mul (a b : Nat) : nI a * nI b = nI (a * b) := (Int32.ofNat_mul a b).symm
theorem pk_div {a d : Nat} (ha : a < 2 ^ 31) (h0 : 0 < d) (hd : d < 2 ^ 31) : nI a / nI d = nI (a / d) := by
  apply Int32.toInt_inj.mp
  rw [lg_idiv_nonneg (by rw [nI_toInt ha]; omega) (by rw [nI_toInt hd]; omega), nI_toInt ha, nI_toInt hd, nI_toInt (Nat.lt_of_le_of_lt (Nat.div_le_self a d) ha)]
  first | rfl | exact (Int.natCast_ediv _ _).symm
theorem pk_rem {a d : Nat} (ha : a < 2 ^ 31) (h0 : 0 < d) (hd : d < 2 ^ 31) : nI a - nI a / nI d * nI d = nI (a % d) := by
  rw [pk_div ha h0 hd, pk_mul, pk_sub (Nat.div_mul_le_self a d)]
  exact congrArg nI (by have := Nat.div_add_mod' a d; omega)
theorem pk_sub_toInt {a b : Nat} (ha : a < 2 ^ 30) (hb : b < 2 ^ 30) : (nI a - nI b).toInt = (a : Int) - b := by
  rw [Int32.toInt_sub, nI_toInt (by omega), nI_toInt (by omega)]
  exact Int.bmod_eq_of_le (by omega) (by omega)
theorem pk_sneg {a b : Nat} (hb : b < 2 ^ 30) (h : a < b) : nI a - nI b < 0 := by
  rw [Int32.lt_iff_toInt_lt, pk_sub_toInt (by omega) hb, show (0 : Int32).toInt = 0 from by decide]
  omega
theorem pk_ix (x : Int32) {n : Nat} (hn : n < 2 ^ 31) : x < 0 ∨ nI n ≤ x ∨ ∃ j : Nat, j < n ∧ x = nI j := by
  by_cases h : x < 0
  · exact Or.inl h
  · obtain ⟨j, hj, rfl⟩ := nI_of h
    by_cases h2 : j < n
    · exact Or.inr (Or.inr ⟨j, h2, rfl⟩)
    · exact Or.inr (Or.inl (nI_le (by omega) hj))
theorem pk_le {x y : Int32} {A B : Prop} (a b : Nat) (f : a ≤ b → A) (g : b < a → B) (hx : x = nI a := by rfl) (hy : y = nI b := by rfl) (ha : a < 2 ^ 31 := by omega) (hb : b < 2 ^ 31 := by omega) : (x ≤ y → A) ∧ (¬ x ≤ y → B) := by
  subst hx hy
  rw [nI_leI ha hb]
  exact ⟨f, fun z => g (by omega)⟩
theorem pk_lt {x y : Int32} {A B : Prop} (a b : Nat) (f : a < b → A) (g : b ≤ a → B) (hx : x = nI a := by rfl) (hy : y = nI b := by rfl) (ha : a < 2 ^ 31 := by omega) (hb : b < 2 ^ 31 := by omega) : (x < y → A) ∧ (¬ x < y → B) := by
  subst hx hy
  rw [nI_ltI ha hb]
  exact ⟨f, fun z => g (by omega)⟩
theorem pk_eq {x y : Int32} {A B : Prop} (a b : Nat) (f : a = b → A) (g : a ≠ b → B) (hx : x = nI a := by rfl) (hy : y = nI b := by rfl) (ha : a < 2 ^ 31 := by omega) (hb : b < 2 ^ 31 := by omega) : (x = y → A) ∧ (¬ x = y → B) := by
  subst hx hy
  rw [nI_eq ha hb]
  exact ⟨f, g⟩
theorem pk_in {x : Int32} (n N : Nat) (h : n < N) (hx : x = nI n := by rfl) (hN : N < 2 ^ 31 := by omega) : vp_in x N := by
  subst hx
  exact vp_in_nI h hN
theorem pk_cl {x : Int32} (n : Nat) (hx : x = nI n := by rfl) (h : n < 2 ^ 31 := by omega) : x.toNatClampNeg = n := by
  subst hx
  exact nI_clamp h
theorem pk_tn {n : Nat} (h : n < 2 ^ 32) : (nI n).toBitVec.toNat = n := Nat.mod_eq_of_lt h
theorem pk_and (x : Int32) {m : Int32} (k : Nat) (hm : m.toBitVec.toNat = 2 ^ k - 1) : x &&& m = nI (x.toBitVec.toNat % 2 ^ k) := by
  apply Int32.toBitVec_inj.mp
  apply BitVec.eq_of_toNat_eq
  rw [Int32.toBitVec_and, BitVec.toNat_and, hm, Nat.and_two_pow_sub_one_eq_mod]
  show _ = (BitVec.ofNat 32 _).toNat
  rw [BitVec.toNat_ofNat]
  exact (Nat.mod_eq_of_lt (Nat.lt_of_le_of_lt (Nat.mod_le _ _) x.toBitVec.isLt)).symm
theorem pk_andN {n : Nat} (h : n < 2 ^ 32) {m : Int32} (k : Nat) (hm : m.toBitVec.toNat = 2 ^ k - 1) : nI n &&& m = nI (n % 2 ^ k) := by
  rw [pk_and _ k hm, pk_tn h]
theorem pk_andE (x : Int32) {m : Int32} (k : Nat) (hm : m.toBitVec.toNat = 2 ^ k - 1) : ∃ j : Nat, j < 2 ^ k ∧ x &&& m = nI j := ⟨_, Nat.mod_lt _ (Nat.two_pow_pos k), pk_and x k hm⟩
theorem pk_andIn (x : Int32) {m : Int32} (k : Nat) (hm : m.toBitVec.toNat = 2 ^ k - 1) (hk : k ≤ 30) : vp_in (x &&& m) (2 ^ k) := by
  obtain ⟨j, hj, e⟩ := pk_andE x k hm
  rw [e]
  exact vp_in_nI hj (Nat.lt_of_le_of_lt (Nat.pow_le_pow_right (by decide) hk) (by decide))
theorem pk_shl (a s : Int32) (k : Nat) (hs : (s.toBitVec.smod 32).toNat = k) : (a <<< s).toBitVec.toNat = a.toBitVec.toNat * 2 ^ k % 2 ^ 32 := by
  show (a.toBitVec <<< (s.toBitVec.smod 32).toNat).toNat = _
  rw [hs, BitVec.toNat_shiftLeft, Nat.shiftLeft_eq]
theorem pk_shlN {n : Nat} (s : Int32) (k : Nat) (hs : (s.toBitVec.smod 32).toNat = k) (h : n * 2 ^ k < 2 ^ 32) : nI n <<< s = nI (n * 2 ^ k) := by
  apply Int32.toBitVec_inj.mp
  apply BitVec.eq_of_toNat_eq
  have hn : n < 2 ^ 32 := Nat.lt_of_le_of_lt (Nat.le_mul_of_pos_right n (Nat.two_pow_pos k)) h
  rw [pk_shl _ _ k hs, pk_tn hn, pk_tn h, Nat.mod_eq_of_lt h]
theorem pk_shr (a s : Int32) (k : Nat) (hs : (s.toBitVec.smod 32).toNat = k) : (a >>> s).toInt = a.toInt >>> k := by
  show (a.toBitVec.sshiftRight (s.toBitVec.smod 32).toNat).toInt = _
  rw [hs, BitVec.toInt_sshiftRight]
  rfl
theorem pk_shrN {n : Nat} (h : n < 2 ^ 31) (s : Int32) (k : Nat) (hs : (s.toBitVec.smod 32).toNat = k) : nI n >>> s = nI (n / 2 ^ k) := by
  apply Int32.toInt_inj.mp
  have h2 : n / 2 ^ k ≤ n := Nat.div_le_self _ _
  rw [pk_shr _ _ k hs, nI_toInt h, nI_toInt (by omega), Int.shiftRight_eq_div_pow]
  rfl
theorem pk_nb (z : Int32) : narrow .byte (.int z.toInt8.toInt32) = .int z.toInt8.toInt32 := congrArg Value.int (by simp)
theorem pk_vb (z : Int32) : vp_nar .byte z.toInt8.toInt32 = z.toInt8.toInt32 := by rw [vp_nar_byte]; simp
def bt (x : Int32) (i : Nat) : Bool := x.toBitVec.getLsbD i
theorem b_ext {x y : Int32} (h : ∀ i, i < 32 → bt x i = bt y i) : x = y := Int32.toBitVec_inj.mp (BitVec.eq_of_getLsbD_eq (fun i hi => h i hi))
theorem b_or (x y : Int32) (i : Nat) : bt (x ||| y) i = (bt x i || bt y i) := by unfold bt; rw [Int32.toBitVec_or, BitVec.getLsbD_or]
theorem b_and (x y : Int32) (i : Nat) : bt (x &&& y) i = (bt x i && bt y i) := by unfold bt; rw [Int32.toBitVec_and, BitVec.getLsbD_and]
theorem b_xor (x y : Int32) (i : Nat) : bt (x ^^^ y) i = (bt x i ^^ bt y i) := by unfold bt; rw [Int32.toBitVec_xor, BitVec.getLsbD_xor]
theorem b_big {x : Int32} {i : Nat} (h : 32 ≤ i) : bt x i = false := BitVec.getLsbD_of_ge _ _ h
theorem b_m1 : ∀ i, i < 32 → bt (-1) i = true := by decide +kernel
theorem b_0 (i : Nat) : bt 0 i = false := BitVec.getLsbD_zero
theorem s_l : ∀ n, n < 32 → ((nI n &&& 31).toBitVec.smod 32).toNat = n := by decide +kernel
theorem b_shl (n : Nat) (hn : n < 32) (x : Int32) {i : Nat} (hi : i < 32) : bt (x <<< (nI n &&& 31)) i = (decide (n ≤ i) && bt x (i - n)) := by
  unfold bt
  rw [Int32.toBitVec_shiftLeft]
  show (x.toBitVec <<< ((nI n &&& 31).toBitVec.smod 32).toNat).getLsbD i = _
  rw [s_l n hn, BitVec.getLsbD_shiftLeft]
  rcases Nat.lt_or_ge i n with h | h
  · simp [h, Nat.not_le.mpr h]
  · simp [hi, h, Nat.not_lt.mpr h]
theorem nx_and (a b : Nat) : nI a &&& nI b = nI (a &&& b) := by
  apply Int32.toBitVec_inj.1
  show BitVec.ofNat 32 a &&& BitVec.ofNat 32 b = BitVec.ofNat 32 (a &&& b)
  apply BitVec.eq_of_getLsbD_eq
  intro i hi
  simp [hi]
theorem nx_xor (a b : Nat) : nI a ^^^ nI b = nI (a ^^^ b) := by
  apply Int32.toBitVec_inj.1
  show BitVec.ofNat 32 a ^^^ BitVec.ofNat 32 b = BitVec.ofNat 32 (a ^^^ b)
  apply BitVec.eq_of_getLsbD_eq
  intro i hi
  simp [hi]
end
section
/-! digits of a code, codes of a row -/
def zp_dg (c i : Nat) : Nat := c / 8 ^ i % 8
theorem zp_dg_lt (c i : Nat) : zp_dg c i < 8 := Nat.mod_lt _ (by decide)
theorem zp_pw (n : Nat) : 0 < 8 ^ n := Nat.pow_pos (by decide)
def zp_en (f : Nat → Nat) : Nat → Nat
  | 0 => 0
  | n + 1 => zp_en f n + f n * 8 ^ n
theorem zp_en_c {f g : Nat → Nat} : ∀ n, (∀ i, i < n → f i = g i) → zp_en f n = zp_en g n := by
  intro n
  induction n with
  | zero => intro _; rfl
  | succ n ih =>
    intro h
    show zp_en f n + f n * 8 ^ n = zp_en g n + g n * 8 ^ n
    rw [ih (fun i hi => h i (by omega)), h n (by omega)]
theorem zp_en_lt {f : Nat → Nat} : ∀ n, (∀ i, i < n → f i < 8) → zp_en f n < 8 ^ n := by
  intro n
  induction n with
  | zero => intro _; exact Nat.one_pos
  | succ n ih =>
    intro h
    have h1 := ih (fun i hi => h i (by omega))
    have h2 := h n (by omega)
    show zp_en f n + f n * 8 ^ n < 8 ^ (n + 1)
    rw [Nat.pow_succ]
    have h3 : f n * 8 ^ n ≤ 7 * 8 ^ n := Nat.mul_le_mul_right _ (by omega)
    omega
theorem zp_dg_en {f : Nat → Nat} : ∀ n, (∀ i, i < n → f i < 8) → ∀ i, i < n → zp_dg (zp_en f n) i = f i := by
  intro n
  induction n with
  | zero => intro _ i hi; exact absurd hi (Nat.not_lt_zero i)
  | succ n ih =>
    intro h i hi
    have h1 := zp_en_lt n (fun i hi => h i (by omega))
    show (zp_en f n + f n * 8 ^ n) / 8 ^ i % 8 = f i
    rcases Nat.lt_or_ge i n with z | z
    · have h2 := ih (fun i hi => h i (by omega)) i z
      have h3 : 8 ^ n = 8 ^ i * (8 * 8 ^ (n - i - 1)) := by
        rw [← Nat.pow_succ', ← Nat.pow_add]
        exact congrArg (fun t => 8 ^ t) (by show n = i + (n - i - 1 + 1); omega)
      have e : f n * 8 ^ n = 8 ^ i * (8 * (f n * 8 ^ (n - i - 1))) := by
        rw [h3, Nat.mul_left_comm, Nat.mul_left_comm (f n)]
      rw [e, Nat.add_mul_div_left _ _ (zp_pw i), Nat.add_mul_mod_self_left]
      exact h2
    · have e : i = n := by omega
      subst e
      rw [Nat.add_mul_div_right _ _ (zp_pw i), Nat.div_eq_of_lt h1, Nat.zero_add, Nat.mod_eq_of_lt (h i (by omega))]
theorem zp_en_dg (c : Nat) : ∀ n, zp_en (zp_dg c) n = c % 8 ^ n := by
  intro n
  induction n with
  | zero => show 0 = c % 8 ^ 0; rw [Nat.pow_zero, Nat.mod_one]
  | succ n ih =>
    show zp_en (zp_dg c) n + c / 8 ^ n % 8 * 8 ^ n = c % 8 ^ (n + 1)
    rw [ih, Nat.mod_pow_succ, Nat.mul_comm (8 ^ n)]
theorem zp_ext {n a b : Nat} (ha : a < 8 ^ n) (hb : b < 8 ^ n) (h : ∀ i, i < n → zp_dg a i = zp_dg b i) : a = b := by
  rw [← Nat.mod_eq_of_lt ha, ← Nat.mod_eq_of_lt hb, ← zp_en_dg, ← zp_en_dg]
  exact zp_en_c n h
theorem zp_dg_mod {c n i : Nat} (h : i < n) : zp_dg (c % 8 ^ n) i = zp_dg c i := by
  rw [← zp_en_dg]
  exact zp_dg_en n (fun j _ => zp_dg_lt c j) i h
/-! blocks so far; rows of block numbers; the greatest so far -/
def zp_bl (f : Nat → Nat) : Nat → Nat
  | 0 => 0
  | i + 1 => if f i = zp_bl f i then zp_bl f i + 1 else zp_bl f i
def zp_mx (f : Nat → Nat) : Nat → Nat
  | 0 => 0
  | i + 1 => if f i ≤ zp_mx f i then zp_mx f i else f i
def zp_rg (n : Nat) (f : Nat → Nat) : Prop := ∀ i, i < n → f i ≤ zp_bl f i
theorem zp_bl_s (f : Nat → Nat) (i : Nat) : zp_bl f (i + 1) = if f i = zp_bl f i then zp_bl f i + 1 else zp_bl f i := rfl
theorem zp_mx_s (f : Nat → Nat) (i : Nat) : zp_mx f (i + 1) = if f i ≤ zp_mx f i then zp_mx f i else f i := rfl
theorem zp_bl_c {f g : Nat → Nat} : ∀ n, (∀ i, i < n → f i = g i) → zp_bl f n = zp_bl g n := by
  intro n
  induction n with
  | zero => intro _; rfl
  | succ n ih =>
    intro h
    rw [zp_bl_s, zp_bl_s, ih (fun i hi => h i (by omega)), h n (by omega)]
theorem zp_mx_c {f g : Nat → Nat} : ∀ n, (∀ i, i < n → f i = g i) → zp_mx f n = zp_mx g n := by
  intro n
  induction n with
  | zero => intro _; rfl
  | succ n ih =>
    intro h
    rw [zp_mx_s, zp_mx_s, ih (fun i hi => h i (by omega)), h n (by omega)]
theorem zp_bl_le (f : Nat → Nat) : ∀ n, zp_bl f n ≤ n := by
  intro n
  induction n with
  | zero => exact Nat.le_refl 0
  | succ n ih => rw [zp_bl_s]; split <;> omega
theorem zp_mx_lt {f : Nat → Nat} {b : Nat} (hb : 0 < b) : ∀ n, (∀ i, i < n → f i < b) → zp_mx f n < b := by
  intro n
  induction n with
  | zero => intro _; exact hb
  | succ n ih =>
    intro h
    rw [zp_mx_s]
    split
    · exact ih (fun i hi => h i (by omega))
    · exact h n (by omega)
theorem zp_rg_c {n : Nat} {f g : Nat → Nat} (h : ∀ i, i < n → f i = g i) (F : zp_rg n f) : zp_rg n g := by
  intro i hi
  rw [← h i hi, ← zp_bl_c i (fun j hj => h j (by omega))]
  exact F i hi
theorem zp_rg_lt {n : Nat} {f : Nat → Nat} (hn : n ≤ 7) (F : zp_rg n f) : ∀ i, i < n → f i ≤ i ∧ f i < 7 := by
  intro i hi
  have h1 := F i hi
  have h2 := zp_bl_le f i
  omega
theorem zp_bm {n : Nat} {f : Nat → Nat} (F : zp_rg n f) : ∀ i, i + 1 ≤ n → zp_bl f (i + 1) = zp_mx f (i + 1) + 1 := by
  intro i
  induction i with
  | zero =>
    intro h
    have h1 := F 0 (by omega)
    have e : zp_bl f 0 = 0 := rfl
    have e2 : zp_mx f 0 = 0 := rfl
    rw [zp_bl_s, zp_mx_s]
    rw [e] at h1 ⊢
    rw [e2, if_pos (by omega), if_pos (by omega)]
  | succ i ih =>
    intro h
    have h1 := F (i + 1) (by omega)
    have h2 := ih (by omega)
    rw [zp_bl_s, zp_mx_s]
    split <;> split <;> omega
theorem zp_occ {n : Nat} {f : Nat → Nat} (F : zp_rg n f) : ∀ i, i ≤ n → ∀ v, v < zp_bl f i ↔ ∃ j, j < i ∧ f j = v := by
  intro i
  induction i with
  | zero =>
    intro _ v
    constructor
    · intro h; exact absurd h (Nat.not_lt_zero v)
    · intro ⟨j, hj, _⟩; exact absurd hj (Nat.not_lt_zero j)
  | succ i ih =>
    intro hi v
    have h1 := F i (by omega)
    have h2 := ih (by omega) v
    rw [zp_bl_s]
    constructor
    · intro h
      by_cases z : v < zp_bl f i
      · obtain ⟨j, hj, e⟩ := h2.mp z
        exact ⟨j, by omega, e⟩
      · split at h
        · exact ⟨i, by omega, by omega⟩
        · omega
    · intro ⟨j, hj, e⟩
      by_cases z : j < i
      · have h3 := h2.mpr ⟨j, z, e⟩
        split <;> omega
      · have e2 : j = i := by omega
        subst e2
        split <;> omega
theorem zp_uq {n : Nat} {f g : Nat → Nat} (F : zp_rg n f) (G : zp_rg n g) (h : ∀ i j, i < n → j < n → (f i = f j ↔ g i = g j)) : ∀ i, i < n → f i = g i := by
  intro i
  induction i using Nat.strongRecOn with
  | ind i ih =>
    intro hi
    have eb : zp_bl f i = zp_bl g i := zp_bl_c i (fun j hj => ih j hj (by omega))
    have h1 := F i hi
    have h2 := G i hi
    by_cases z : f i < zp_bl f i
    · obtain ⟨j, hj, e⟩ := (zp_occ F i (by omega) (f i)).mp z
      have h3 := (h j i (by omega) hi).mp e
      rw [← e, ← h3]
      exact ih j hj (by omega)
    · by_cases w : g i < zp_bl g i
      · obtain ⟨j, hj, e⟩ := (zp_occ G i (by omega) (g i)).mp w
        have h3 := (h j i (by omega) hi).mpr e
        exact absurd ((zp_occ F i (by omega) (f i)).mpr ⟨j, hj, h3⟩) z
      · omega
/-! the list of all: by one more point -/
def zp_gs (n : Nat) (l : List Nat) : List Nat := l.flatMap (fun c => (List.range (zp_bl (zp_dg c) n + 1)).map (fun d => c + d * 8 ^ n))
def zp_gn : Nat → List Nat
  | 0 => [0]
  | n + 1 => zp_gs n (zp_gn n)
theorem zp_gn_s (n : Nat) : zp_gn (n + 1) = zp_gs n (zp_gn n) := rfl
theorem zp_gn_mem : ∀ n, n ≤ 7 → ∀ c, c ∈ zp_gn n ↔ c < 8 ^ n ∧ zp_rg n (zp_dg c) := by
  intro n
  induction n with
  | zero =>
    intro _ c
    show c ∈ [0] ↔ _
    rw [List.mem_singleton]
    constructor
    · intro h; subst h; exact ⟨by decide, fun i hi => absurd hi (Nat.not_lt_zero i)⟩
    · intro ⟨h, _⟩; rw [Nat.pow_zero] at h; omega
  | succ n ih =>
    intro hn c
    have ih := ih (by omega)
    rw [zp_gn_s]
    unfold zp_gs
    rw [List.mem_flatMap]
    constructor
    · intro ⟨a, ha, h⟩
      rw [List.mem_map] at h
      obtain ⟨d, hd, e⟩ := h
      rw [List.mem_range] at hd
      obtain ⟨h1, h2⟩ := (ih a).mp ha
      have h3 := zp_bl_le (zp_dg a) n
      have h4 : d * 8 ^ n ≤ 7 * 8 ^ n := Nat.mul_le_mul_right _ (by omega)
      have hm : c % 8 ^ n = a := by
        rw [← e, Nat.add_mul_mod_self_right, Nat.mod_eq_of_lt h1]
      have hd2 : zp_dg c n = d := by
        show c / 8 ^ n % 8 = d
        rw [← e, Nat.add_mul_div_right _ _ (zp_pw n), Nat.div_eq_of_lt h1, Nat.zero_add, Nat.mod_eq_of_lt (by omega)]
      have hl : ∀ i, i < n → zp_dg a i = zp_dg c i := fun i hi => by rw [← hm, zp_dg_mod hi]
      refine ⟨by rw [Nat.pow_succ]; omega, fun i hi => ?_⟩
      rcases Nat.lt_or_ge i n with z | z
      · exact zp_rg_c hl h2 i z
      · have ei : i = n := by omega
        subst ei
        rw [hd2, ← zp_bl_c i hl]
        omega
    · intro ⟨h1, h2⟩
      have hl : ∀ i, i < n → zp_dg c i = zp_dg (c % 8 ^ n) i := fun i hi => (zp_dg_mod hi).symm
      refine ⟨c % 8 ^ n, (ih _).mpr ⟨Nat.mod_lt _ (zp_pw n), zp_rg_c hl (fun i hi => h2 i (by omega))⟩, ?_⟩
      rw [List.mem_map]
      refine ⟨zp_dg c n, ?_, ?_⟩
      · rw [List.mem_range, ← zp_bl_c n hl]
        have := h2 n (by omega)
        omega
      · have e := Nat.mod_pow_succ (x := c) (b := 8) (k := n)
        rw [Nat.mod_eq_of_lt h1, Nat.mul_comm] at e
        exact e.symm
/-! bit sets of pairs -/
def zp_bs : List Bool → Nat
  | [] => 0
  | b :: l => (if b then 1 else 0) + 2 * zp_bs l
theorem zp_bs_app (b : Bool) : ∀ l : List Bool, zp_bs (l ++ [b]) = zp_bs l + (if b then 2 ^ l.length else 0) := by
  intro l
  induction l with
  | nil => cases b <;> rfl
  | cons a l ih =>
    show (if a then 1 else 0) + 2 * zp_bs (l ++ [b]) = (if a then 1 else 0) + 2 * zp_bs l + (if b then 2 ^ (l.length + 1) else 0)
    rw [ih, Nat.pow_succ]
    cases b
    · simp only [Bool.false_eq_true, if_false]; omega
    · simp only [if_true]; omega
theorem zp_bs_lt : ∀ l : List Bool, zp_bs l < 2 ^ l.length := by
  intro l
  induction l with
  | nil => exact Nat.one_pos
  | cons a l ih =>
    show (if a then 1 else 0) + 2 * zp_bs l < 2 ^ (l.length + 1)
    rw [Nat.pow_succ]
    split <;> omega
theorem zp_bs_tb : ∀ (l : List Bool) (i : Nat), (zp_bs l).testBit i = (l[i]?).getD false := by
  intro l
  induction l with
  | nil => intro i; show (0 : Nat).testBit i = _; rw [Nat.zero_testBit]; rfl
  | cons a l ih =>
    intro i
    show ((if a then 1 else 0) + 2 * zp_bs l).testBit i = _
    cases i with
    | zero =>
      rw [Nat.testBit_zero]
      cases a
      · simp only [Bool.false_eq_true, if_false, List.getElem?_cons_zero, Option.getD_some, decide_eq_false_iff_not]; omega
      · simp only [if_true, List.getElem?_cons_zero, Option.getD_some, decide_eq_true_eq]; omega
    | succ i =>
      rw [Nat.testBit_succ, List.getElem?_cons_succ, ← ih i]
      congr 1
      split <;> omega
def zp_fn (a b : Nat) : Bool := Nat.beq (Nat.land a b) a
theorem zp_fn_tb {a b : Nat} : zp_fn a b = true ↔ ∀ i, a.testBit i = true → b.testBit i = true := by
  unfold zp_fn
  rw [Nat.beq_eq]
  show a &&& b = a ↔ _
  constructor
  · intro h i hi
    have h1 := Nat.testBit_and a b i
    rw [h, hi] at h1
    rw [Bool.true_and] at h1
    exact h1.symm
  · intro h
    apply Nat.eq_of_testBit_eq
    intro i
    rw [Nat.testBit_and]
    cases z : a.testBit i
    · rfl
    · rw [h i z]; rfl
theorem zp_fn_bs {α : Type} {p q : α → Bool} {l : List α} : zp_fn (zp_bs (l.map p)) (zp_bs (l.map q)) = true ↔ ∀ x, x ∈ l → p x = true → q x = true := by
  rw [zp_fn_tb]
  constructor
  · intro h x hx hp
    obtain ⟨i, hi⟩ := List.mem_iff_getElem?.mp hx
    have h1 := h i
    rw [zp_bs_tb, zp_bs_tb, List.getElem?_map, List.getElem?_map, hi] at h1
    exact h1 hp
  · intro h i
    rw [zp_bs_tb, zp_bs_tb, List.getElem?_map, List.getElem?_map]
    cases hx : l[i]? with
    | none => intro z; exact absurd z Bool.false_ne_true
    | some x => exact h x (List.mem_iff_getElem?.mpr ⟨i, hx⟩)
def zp_pl (n i : Nat) : List (Nat × Nat) := (List.range i).flatMap (fun a => (List.range (n - 1 - a)).map (fun d => (a, a + 1 + d)))
theorem zp_pl_mem {n a b : Nat} : (a, b) ∈ zp_pl n n ↔ a < b ∧ b < n := by
  unfold zp_pl
  rw [List.mem_flatMap]
  constructor
  · intro ⟨x, hx, h⟩
    rw [List.mem_map] at h
    obtain ⟨d, hd, e⟩ := h
    rw [List.mem_range] at hd
    have e1 : x = a := congrArg Prod.fst e
    have e2 : x + 1 + d = b := congrArg Prod.snd e
    omega
  · intro ⟨h1, h2⟩
    refine ⟨a, List.mem_range.mpr (by omega), List.mem_map.mpr ⟨b - a - 1, List.mem_range.mpr (by omega), ?_⟩⟩
    rw [show a + 1 + (b - a - 1) = b by omega]
def zp_tg (n : Nat) (f : Nat → Nat) : Nat := zp_bs ((zp_pl n n).map (fun p => Nat.beq (f p.1) (f p.2)))
theorem zp_tg_fn {n : Nat} {f g : Nat → Nat} : zp_fn (zp_tg n f) (zp_tg n g) = true ↔ ∀ i j, i < n → j < n → f i = f j → g i = g j := by
  unfold zp_tg
  rw [zp_fn_bs]
  constructor
  · intro h i j hi hj e
    rcases Nat.lt_trichotomy i j with z | z | z
    · have := h (i, j) (zp_pl_mem.mpr ⟨z, hj⟩) (by rw [Nat.beq_eq]; exact e)
      rw [Nat.beq_eq] at this
      exact this
    · rw [z]
    · have := h (j, i) (zp_pl_mem.mpr ⟨z, hi⟩) (by rw [Nat.beq_eq]; exact e.symm)
      rw [Nat.beq_eq] at this
      exact this.symm
  · intro h x hx e
    obtain ⟨a, b⟩ := x
    have hm := zp_pl_mem.mp hx
    rw [Nat.beq_eq] at e ⊢
    exact h a b (by omega) (by omega) e
theorem zp_tg_c {n : Nat} {f g : Nat → Nat} (h : ∀ i j, i < n → j < n → (f i = f j ↔ g i = g j)) : zp_tg n f = zp_tg n g := by
  unfold zp_tg
  apply congrArg
  apply List.map_congr_left
  intro x hx
  obtain ⟨a, b⟩ := x
  have hm := zp_pl_mem.mp hx
  have h1 := h a b (by omega) (by omega)
  apply Bool.eq_iff_iff.mpr
  rw [Nat.beq_eq, Nat.beq_eq]
  exact h1
theorem zp_fn_refl (a : Nat) : zp_fn a a = true := zp_fn_tb.mpr (fun _ h => h)
theorem zp_tg_p {n : Nat} {f g : Nat → Nat} (h : zp_tg n f = zp_tg n g) : ∀ i j, i < n → j < n → (f i = f j ↔ g i = g j) := by
  intro i j hi hj
  constructor
  · exact zp_tg_fn.mp (by rw [h]; exact zp_fn_refl _) i j hi hj
  · exact zp_tg_fn.mp (by rw [h]; exact zp_fn_refl _) i j hi hj
theorem zp_pl_len : ∀ n, n ≤ 7 → ∀ i, i < n → (zp_pl n i).length + (n - 1 - i) ≤ 21 := by
  intro n hn i hi
  have h : ∀ n, n < 8 → ∀ i, i < 8 → i < n → (zp_pl n i).length + (n - 1 - i) ≤ 21 := by decide +kernel
  exact h n (by omega) i (by omega) hi
theorem zp_tg_lt {n : Nat} {f : Nat → Nat} (hn : n ≤ 7) : zp_tg n f < 2 ^ 21 := by
  unfold zp_tg
  have h1 := zp_bs_lt ((zp_pl n n).map (fun p => Nat.beq (f p.1) (f p.2)))
  rw [List.length_map] at h1
  have h : ∀ n, n < 8 → (zp_pl n n).length ≤ 21 := by decide +kernel
  have h2 : 2 ^ (zp_pl n n).length ≤ 2 ^ 21 := Nat.pow_le_pow_right (by decide) (h n (by omega))
  omega
/-! two codes of the list with one pattern are equal -/
theorem zp_cu {n a b : Nat} (hn : n ≤ 7) (ha : a ∈ zp_gn n) (hb : b ∈ zp_gn n) (h : zp_tg n (zp_dg a) = zp_tg n (zp_dg b)) : a = b := by
  obtain ⟨a1, a2⟩ := (zp_gn_mem n hn a).mp ha
  obtain ⟨b1, b2⟩ := (zp_gn_mem n hn b).mp hb
  exact zp_ext a1 b1 (zp_uq a2 b2 (zp_tg_p h))
/-! finer, at the ints -/
theorem zp_btN (a : Nat) {i : Nat} (hi : i < 32) : bt (nI a) i = a.testBit i := by
  show (BitVec.ofNat 32 a).getLsbD i = _
  rw [BitVec.getLsbD_ofNat, decide_eq_true hi, Bool.true_and]
theorem zp_fnI {a b : Nat} (ha : a < 2 ^ 32) : (nI a &&& (nI b ^^^ (-1))) = 0 ↔ zp_fn a b = true := by
  rw [zp_fn_tb]
  constructor
  · intro h i hi
    have h32 : i < 32 := by
      rcases Nat.lt_or_ge i 32 with z | z
      · exact z
      · have : a < 2 ^ i := Nat.lt_of_lt_of_le ha (Nat.pow_le_pow_right (by decide) z)
        rw [Nat.testBit_lt_two_pow this] at hi
        exact absurd hi (by decide)
    have h1 : bt (nI a &&& (nI b ^^^ (-1))) i = bt 0 i := by rw [h]
    rw [b_and, b_xor, b_m1 i h32, b_0, zp_btN a h32, zp_btN b h32, hi] at h1
    cases z : b.testBit i
    · rw [z] at h1; exact absurd h1 (by decide)
    · rfl
  · intro h
    apply b_ext
    intro i hi
    rw [b_and, b_xor, b_m1 i hi, b_0, zp_btN a hi, zp_btN b hi]
    cases z : a.testBit i
    · rfl
    · rw [h i z]; rfl
end
section
/-! crossings -/
def zp_ca (m : Nat) (t : Nat → Nat) : Prop := ∃ i j k l, i < j ∧ j < k ∧ k < l ∧ l < m ∧ t i = t k ∧ t j = t l ∧ t j ≠ t i
def zp_cb (m : Nat) (t : Nat → Nat) : Bool := (List.range m).any fun i => (List.range m).any fun k => (decide (i + 2 ≤ k) && decide (t i = t k)) && (List.range k).any fun j => decide (i < j) && (List.range m).any fun l => (decide (k < l) && decide (t j = t l)) && decide (t j ≠ t i)
theorem zp_cb_iff {m : Nat} {t : Nat → Nat} : zp_cb m t = true ↔ zp_ca m t := by
  simp only [zp_cb, List.any_eq_true, List.mem_range, Bool.and_eq_true, decide_eq_true_eq]
  constructor
  · intro ⟨i, hi, k, hk, ⟨h1, h2⟩, j, hj, h3, l, hl, ⟨h4, h5⟩, h6⟩
    exact ⟨i, j, k, l, h3, hj, h4, hl, h2, h5, h6⟩
  · intro ⟨i, j, k, l, h1, h2, h3, h4, h5, h6, h7⟩
    exact ⟨i, by omega, k, by omega, ⟨by omega, h5⟩, j, h2, h1, l, h4, ⟨h3, h6⟩, h7⟩
/-! a table's entry: code, pairs, blocks, crossed -/
def zk_pk (n c : Nat) : Nat := c + 2097152 * zp_tg n (zp_dg c) + 4398046511104 * (zp_mx (zp_dg c) n + 1) + 35184372088832 * (if zp_cb n (zp_dg c) then 1 else 0)
def zk_c (r : Nat) : Nat := r % 2097152
def zk_p (r : Nat) : Nat := r / 2097152 % 2097152
def zk_n (r : Nat) : Nat := r / 4398046511104 % 8
def zk_x (r : Nat) : Nat := r / 35184372088832
def zk_leq : List Nat → List Nat → Bool
  | [], [] => true
  | a :: l, b :: m => Nat.beq a b && zk_leq l m
  | _, _ => false
theorem zk_leq_eq : ∀ {l m : List Nat}, zk_leq l m = true → l = m := by
  intro l
  induction l with
  | nil =>
    intro m h
    cases m with
    | nil => rfl
    | cons b m => exact absurd h (by simp [zk_leq])
  | cons a l ih =>
    intro m h
    cases m with
    | nil => exact absurd h (by simp [zk_leq])
    | cons b m =>
      simp only [zk_leq, Bool.and_eq_true, Nat.beq_eq] at h
      rw [h.1, ih h.2]
set_option maxRecDepth 100000 in
noncomputable def zk_T1 : List Nat := [nat_lit 4398046511104]
set_option maxRecDepth 100000 in
noncomputable def zk_T2 : List Nat := [nat_lit 4398048608256, nat_lit 8796093022216]
set_option maxRecDepth 100000 in
noncomputable def zk_T3 : List Nat := [nat_lit 4398061191168, nat_lit 8796095119424, nat_lit 8796097216520, nat_lit 8796101410888, nat_lit 13194139533448]
set_option maxRecDepth 100000 in
noncomputable def zk_T4 : List Nat := [nat_lit 4398178631680, nat_lit 8796116091392, nat_lit 8796137062464, nat_lit 8796162228800, nat_lit 13194141631552, nat_lit 8796172713992, nat_lit 43980502860296, nat_lit 13194143728648, nat_lit 8796118188104, nat_lit 8796210463304, nat_lit 13194156311624, nat_lit 13194147922056,
  nat_lit 13194173088392, nat_lit 13194206643336, nat_lit 17592186046088]
set_option maxRecDepth 100000 in
noncomputable def zk_T5 : List Nat := [nat_lit 4400191897600, nat_lit 8796476805120, nat_lit 8796820734464, nat_lit 8797206614528, nat_lit 13194179387904, nat_lit 8797395353664, nat_lit 43981079580736, nat_lit 13194217136192, nat_lit 8796514550336, nat_lit 8797974172224, nat_lit 13194410074688, nat_lit 13194292626496,
  nat_lit 13194678506560, nat_lit 13195215381568, nat_lit 17592188154944, nat_lit 8798001430536, nat_lit 43980880351240, nat_lit 13194420559880, nat_lit 43981090062856, nat_lit 43981744378376, nat_lit 48378582934024, nat_lit 13194697376776, nat_lit 48378650039304, nat_lit 13195217478664,
  nat_lit 17592190252040, nat_lit 8797225484360, nat_lit 43981178146888, nat_lit 13194181484616, nat_lit 8796478898760, nat_lit 8798206956104, nat_lit 13194508640840, nat_lit 13194189866056, nat_lit 13194844181576, nat_lit 13195246838856, nat_lit 17592219612232, nat_lit 13195238441096,
  nat_lit 48378654232712, nat_lit 48379056889992, nat_lit 17592194445448, nat_lit 13194223420040, nat_lit 13195414606472, nat_lit 48379115610760, nat_lit 17592253166216, nat_lit 13194424747144, nat_lit 13194542191752, nat_lit 13196018590856, nat_lit 17592454493320, nat_lit 17592202823304,
  nat_lit 17592320267912, nat_lit 17592722925192, nat_lit 17593259800200, nat_lit 21990232573576]
set_option maxRecDepth 100000 in
noncomputable def zk_T6 : List Nat := [nat_lit 4466763890688, nat_lit 8808405434368, nat_lit 8819428036608, nat_lit 8831742545920, nat_lit 13195429351424, nat_lit 8837824250368, nat_lit 44000151110144, nat_lit 13196645696000, nat_lit 8809621754368, nat_lit 8856296002048, nat_lit 13202802938368, nat_lit 13199078334976,
  nat_lit 13211392844288, nat_lit 13228572746240, nat_lit 17592259551744, nat_lit 8857222905920, nat_lit 43993779961920, nat_lit 13203159449664, nat_lit 44000507596864, nat_lit 44021412040768, nat_lit 48380803878976, nat_lit 13212034539584, nat_lit 48382951333952, nat_lit 13228644048960,
  nat_lit 17592330854464, nat_lit 8832384238144, nat_lit 44003301032512, nat_lit 13195500651072, nat_lit 8808476709440, nat_lit 8863740891712, nat_lit 13205952860736, nat_lit 13195785806400, nat_lit 13216690250304, nat_lit 13229575184960, nat_lit 17593261990464, nat_lit 13229357007936,
  nat_lit 48383093933120, nat_lit 48395978867776, nat_lit 17592473453632, nat_lit 13196859544640, nat_lit 13234943857728, nat_lit 48397841142848, nat_lit 17594335728704, nat_lit 13203301999680, nat_lit 13207026574400, nat_lit 13254271247424, nat_lit 17600778183744, nat_lit 17592758580288,
  nat_lit 17596483155008, nat_lit 17609368089664, nat_lit 17626547991616, nat_lit 21990234797120, nat_lit 8863801671688, nat_lit 43992842534920, nat_lit 13205980119048, nat_lit 44003328266248, nat_lit 44016716517384, nat_lit 48379866451976, nat_lit 13216734257160, nat_lit 48380134858760,
  nat_lit 13229585670152, nat_lit 17593272475656, nat_lit 44021456044552, nat_lit 44000484557320, nat_lit 48380814361096, nat_lit 43993790419464, nat_lit 44041538408968, nat_lit 48387508474376, nat_lit 48382978564616, nat_lit 48396366815752, nat_lit 48413009846792, nat_lit 52776696652296,
  nat_lit 13234996249608, nat_lit 48381216982024, nat_lit 48397860013064, nat_lit 17594354598920, nat_lit 48383112778760, nat_lit 48413680899080, nat_lit 48395964191752, nat_lit 52776830866440, nat_lit 13207062193160, nat_lit 48387642663944, nat_lit 13254273344520, nat_lit 17600780280840,
  nat_lit 17596518773768, nat_lit 52777099244552, nat_lit 17609370186760, nat_lit 17626550088712, nat_lit 21990236894216, nat_lit 8856348393544, nat_lit 43993979191368, nat_lit 13202821808200, nat_lit 44000169955400, nat_lit 44022148141128, nat_lit 48381003108424, nat_lit 13211428462664,
  nat_lit 48383418998856, nat_lit 13228574842952, nat_lit 17592261648456, nat_lit 8831778161224, nat_lit 44003768697416, nat_lit 13195431445064, nat_lit 8808407503432, nat_lit 8864745427528, nat_lit 13206420525640, nat_lit 13195448164936, nat_lit 13217426350664, nat_lit 13229774414408,
  nat_lit 17593461219912, nat_lit 13228616713288, nat_lit 48383427380296, nat_lit 48395775444040, nat_lit 17592270029896, nat_lit 13196656120904, nat_lit 13235814175816, nat_lit 48398174590024, nat_lit 17594669175880, nat_lit 13202830140488, nat_lit 13207628457032, nat_lit 13254336259144,
  nat_lit 17600843195464, nat_lit 17592286721096, nat_lit 17597085037640, nat_lit 17609433101384, nat_lit 17626613003336, nat_lit 21990299808840, nat_lit 13254327795848, nat_lit 48387663626376, nat_lit 48391421755528, nat_lit 17600801243272, nat_lit 48396001874056, nat_lit 48413685092488,
  nat_lit 48383083483272, nat_lit 52776835059848, nat_lit 48397880926344, nat_lit 48381204406408, nat_lit 48419322273928, nat_lit 52778714112136, nat_lit 17609407869064, nat_lit 52777103437960, nat_lit 52780861567112, nat_lit 17626554282120, nat_lit 21990241087624, nat_lit 13228683821704,
  nat_lit 48396379390600, nat_lit 48382957650568, nat_lit 17592337138312, nat_lit 13203165680264, nat_lit 13255208637064, nat_lit 48391799247496, nat_lit 17601178735240, nat_lit 48380826886792, nat_lit 48398510105224, nat_lit 48419448103560, nat_lit 52778839941768, nat_lit 17592353829512,
  nat_lit 17610037047944, nat_lit 52780987396744, nat_lit 17626680111752, nat_lit 21990366917256, nat_lit 13229623346312, nat_lit 48380139046024, nat_lit 48401077044360, nat_lit 17593276662920, nat_lit 13195515270280, nat_lit 13230378357896, nat_lit 48401328706696, nat_lit 17593528325256,
  nat_lit 13205984257160, nat_lit 13206487606408, nat_lit 13261785343112, nat_lit 17603997312136, nat_lit 17593293354120, nat_lit 17593796703368, nat_lit 17614734701704, nat_lit 17627619636360, nat_lit 21991306441864, nat_lit 17626596116104, nat_lit 52777111815816, nat_lit 52780869944968,
  nat_lit 52793754879624, nat_lit 21990249465480, nat_lit 17592488040072, nat_lit 17627351127688, nat_lit 52781121607304, nat_lit 52794006541960, nat_lit 21990501127816, nat_lit 17594367092360, nat_lit 17594870441608, nat_lit 17632988309128, nat_lit 52795885594248, nat_lit 21992380180104,
  nat_lit 17600809547400, nat_lit 17601312896648, nat_lit 17605071025800, nat_lit 17652315698824, nat_lit 21998822635144, nat_lit 21990266128008, nat_lit 21990769477256, nat_lit 21994527606408, nat_lit 22007412541064, nat_lit 22024592443016, nat_lit 26388279248520]
set_option maxRecDepth 100000 in
noncomputable def zk_T7 : List Nat := [nat_lit 8796090925056, nat_lit 9584150577152, nat_lit 10289632280576, nat_lit 11077691932672, nat_lit 13276715450368, nat_lit 11467006939136, nat_lit 45240415424512, nat_lit 13354578481152, nat_lit 9662013411328, nat_lit 12649096318976, nat_lit 13748608208896, nat_lit 13510304141312,
  nat_lit 14298363793408, nat_lit 15397875683328, nat_lit 17596899201024, nat_lit 12708529308160, nat_lit 44832670351872, nat_lit 13771467129344, nat_lit 45263274148352, nat_lit 46601089614336, nat_lit 48525235225088, nat_lit 14339509649920, nat_lit 48662673949184, nat_lit 15402447471104,
  nat_lit 17601470988800, nat_lit 11118837764608, nat_lit 45442002063872, nat_lit 13281287213568, nat_lit 9588722143744, nat_lit 13125560865280, nat_lit 13950194848256, nat_lit 13299573920256, nat_lit 14637389386240, nat_lit 15462023369216, nat_lit 17661046886912, nat_lit 15448164803072,
  nat_lit 48671817474560, nat_lit 49496451457536, nat_lit 17610614514176, nat_lit 13368293368320, nat_lit 15805620462080, nat_lit 49615603278336, nat_lit 17729766334976, nat_lit 13780610261504, nat_lit 14018914099712, nat_lit 17042571338240, nat_lit 18142083228160, nat_lit 17628900991488,
  nat_lit 17867204829696, nat_lit 18691838812672, nat_lit 19791350702592, nat_lit 21990374220288, nat_lit 13129574514752, nat_lit 44772679221312, nat_lit 13951994167360, nat_lit 45443801186368, nat_lit 46300580315200, nat_lit 48465244094528, nat_lit 14640295772224, nat_lit 48482423734336,
  nat_lit 15462715424832, nat_lit 17661738942528, nat_lit 46603995975744, nat_lit 45261751849024, nat_lit 48525927256128, nat_lit 44833362186304, nat_lit 47889164570688, nat_lit 48954316722240, nat_lit 48664473047104, nat_lit 49521252175936, nat_lit 50586404327488, nat_lit 52785427845184,
  nat_lit 15809080467520, nat_lit 48551696801856, nat_lit 49616848953408, nat_lit 17731012010048, nat_lit 48673062953024, nat_lit 50629353709632, nat_lit 49495482605632, nat_lit 52794017751104, nat_lit 14021266841664, nat_lit 48962906431552, nat_lit 17042709749824, nat_lit 18142221639744,
  nat_lit 17869557571648, nat_lit 52811197161536, nat_lit 18691977224256, nat_lit 19791489114176, nat_lit 21990512631872, nat_lit 12652556321344, nat_lit 44845416841792, nat_lit 13749853880896, nat_lit 45241660899904, nat_lit 46648195842624, nat_lit 48537981715008, nat_lit 14300716532288,
  nat_lit 48692600308288, nat_lit 15398014091840, nat_lit 17597037609536, nat_lit 11080044646976, nat_lit 45471928422976, nat_lit 13276853834304, nat_lit 9584288764480, nat_lit 13189846962752, nat_lit 13980121207360, nat_lit 13277960671808, nat_lit 14684495614528, nat_lit 15474769859136,
  nat_lit 17673793376832, nat_lit 15400781750848, nat_lit 48693153899072, nat_lit 49483428143680, nat_lit 17597591200320, nat_lit 13355270054464, nat_lit 15861316624960, nat_lit 49636939702848, nat_lit 17751102759488, nat_lit 13750407078464, nat_lit 14057430393408, nat_lit 17046727893568,
  nat_lit 18146239783488, nat_lit 17598697808448, nat_lit 17905721123392, nat_lit 18695995368000, nat_lit 19795507257920, nat_lit 21994530775616, nat_lit 17046307865664, nat_lit 48964290479168, nat_lit 49204808909888, nat_lit 18143605687360, nat_lit 49497973490752, nat_lit 50629630526528,
  nat_lit 48671125701696, nat_lit 52794294568000, nat_lit 49618232607808, nat_lit 48550866388032, nat_lit 50990408074304, nat_lit 52914553685056, nat_lit 18694468109376, nat_lit 52811473978432, nat_lit 53051992409152, nat_lit 19791765931072, nat_lit 21990789448768, nat_lit 15405076714560,
  nat_lit 49522082583616, nat_lit 48663089386560, nat_lit 17601886164032, nat_lit 13771881878592, nat_lit 17102562169920, nat_lit 49228917806144, nat_lit 18167714583616, nat_lit 48526757270592, nat_lit 49658414306368, nat_lit 50998444364864, nat_lit 52922589975616, nat_lit 17602992772160,
  nat_lit 18734649807936, nat_lit 53060028699712, nat_lit 19799802221632, nat_lit 21998825739328, nat_lit 15465206260800, nat_lit 48482700502080, nat_lit 49822730560576, nat_lit 17662015710272, nat_lit 13282255610944, nat_lit 15513424274496, nat_lit 49838803166272, nat_lit 17678088315968,
  nat_lit 13952270541888, nat_lit 13984415949888, nat_lit 17523469263936, nat_lit 18348103246912, nat_lit 17663122318400, nat_lit 17695267726400, nat_lit 19035297784896, nat_lit 19859931767872, nat_lit 22058955285568, nat_lit 19794533299264, nat_lit 52812027540544, nat_lit 53052545971264,
  nat_lit 53877179954240, nat_lit 21991343010880, nat_lit 17611582649408, nat_lit 19842751312960, nat_lit 53068618576960, nat_lit 53893252559936, nat_lit 22007415616576, nat_lit 17731841766464, nat_lit 17763987174464, nat_lit 20203528860736, nat_lit 54013511676992, nat_lit 22127674733632,
  nat_lit 18144158659648, nat_lit 18176304067648, nat_lit 18416822498368, nat_lit 21440479736896, nat_lit 22539991626816, nat_lit 21992449389632, nat_lit 22024594797632, nat_lit 22265113228352, nat_lit 23089747211328, nat_lit 24189259101248, nat_lit 26388282618944, nat_lit 13189974589448,
  nat_lit 44768654786568, nat_lit 13980181987336, nat_lit 45471989006344, nat_lit 46264343625736, nat_lit 48461219659784, nat_lit 14684589719560, nat_lit 48462293172232, nat_lit 15474797117448, nat_lit 17673820635144, nat_lit 46648289923080, nat_lit 45241621286920, nat_lit 48538008948744,
  nat_lit 44845443878920, nat_lit 47836821753864, nat_lit 48934186160136, nat_lit 48692660867080, nat_lit 49485015486472, nat_lit 50582379892744, nat_lit 52781403410440, nat_lit 15861427478536, nat_lit 48539619303432, nat_lit 49636983709704, nat_lit 17751146766344, nat_lit 48693197709320,
  nat_lit 50585063956488, nat_lit 49483405107208, nat_lit 52781940252680, nat_lit 14057507725320, nat_lit 48934722805768, nat_lit 17046738378760, nat_lit 18146250268680, nat_lit 17905798455304, nat_lit 52783013535752, nat_lit 18696005853192, nat_lit 19795517743112, nat_lit 21994541260808,
  nat_lit 47889275421192, nat_lit 44833339343368, nat_lit 48954360726024, nat_lit 45261795656200, nat_lit 46603906089480, nat_lit 48525904216584, nat_lit 49521329504776, nat_lit 48664416682504, nat_lit 50586414809608, nat_lit 52785438327304, nat_lit 46300657619464, nat_lit 45443744797192,
  nat_lit 48465254552072, nat_lit 44772689482248, nat_lit 48313823171080, nat_lit 49136309670408, nat_lit 48482467516936, nat_lit 49824577950216, nat_lit 50647064449544, nat_lit 52846087967240, nat_lit 50629447787016, nat_lit 48673023336968, nat_lit 49495509836296, nat_lit 52794044981768,
  nat_lit 48551723835912, nat_lit 50993345896968, nat_lit 49616809140744, nat_lit 52915344286216, nat_lit 48962966987272, nat_lit 49205565792776, nat_lit 52227075547656, nat_lit 53326587437576, nat_lit 52811257717256, nat_lit 53053856522760, nat_lit 53876343022088, nat_lit 54975854912008,
  nat_lit 57174878429704, nat_lit 17102681408520, nat_lit 48956239512584, nat_lit 49228970198024, nat_lit 18167766975496, nat_lit 49522134778888, nat_lit 50589367305224, nat_lit 48663074735112, nat_lit 52786243601416, nat_lit 49658500023304, nat_lit 48526709294088, nat_lit 50998463235080,
  nat_lit 52922608845832, nat_lit 18734735524872, nat_lit 52787316884488, nat_lit 53060047569928, nat_lit 19799821091848, nat_lit 21998844609544, nat_lit 50629716218888, nat_lit 49497925489672, nat_lit 48671144547336, nat_lit 52794313413640, nat_lit 48964309128200, nat_lit 52230564910088,
  nat_lit 49204760712200, nat_lit 53327929578504, nat_lit 48550918558728, nat_lit 49618151085064, nat_lit 50990393398280, nat_lit 52914539009032, nat_lit 52811526149128, nat_lit 53878758675464, nat_lit 53051977733128, nat_lit 54976123343880, nat_lit 57175146861576, nat_lit 15513526739976,
  nat_lit 48466596471816, nat_lit 49838838785032, nat_lit 17678123934728, nat_lit 48482735924232, nat_lit 50649480078344, nat_lit 49822699136008, nat_lit 52846356374536, nat_lit 13984484893704, nat_lit 49136577881096, nat_lit 17523471361032, nat_lit 18348105344008, nat_lit 17695336670216,
  nat_lit 52847429657608, nat_lit 19035299881992, nat_lit 19859933864968, nat_lit 22058957382664, nat_lit 19842853778440, nat_lit 52795923510280, nat_lit 53068654195720, nat_lit 53893288178696, nat_lit 22007451235336, nat_lit 52812062962696, nat_lit 54978807116808, nat_lit 53052514546696,
  nat_lit 53877148529672, nat_lit 57175683675144, nat_lit 17764056118280, nat_lit 52916149105672, nat_lit 20203530957832, nat_lit 54013513774088, nat_lit 22127676830728, nat_lit 18176373011464, nat_lit 53328465998856, nat_lit 18416824595464, nat_lit 21440481833992, nat_lit 22539993723912,
  nat_lit 22024663741448, nat_lit 57176756728840, nat_lit 22265115325448, nat_lit 23089749308424, nat_lit 24189261198344, nat_lit 26388284716040, nat_lit 13125680103496, nat_lit 44773079777352, nat_lit 13950247239752, nat_lit 45442054258760, nat_lit 46303128354888, nat_lit 48465644650568,
  nat_lit 14637475102792, nat_lit 48483898032200, nat_lit 15462042239048, nat_lit 17661065756744, nat_lit 46601175306312, nat_lit 45263226146888, nat_lit 48525254070344, nat_lit 44832689000520, nat_lit 47892786352200, nat_lit 48955791020104, nat_lit 48662726119496, nat_lit 49523800215624,
  nat_lit 50586804883528, nat_lit 52785828401224, nat_lit 15805722927176, nat_lit 48552634228808, nat_lit 49615638896712, nat_lit 17729801953352, nat_lit 48671852896328, nat_lit 50632438620232, nat_lit 49496420032584, nat_lit 52794955178056, nat_lit 14018983043144, nat_lit 48964917600328,
  nat_lit 17042573434952, nat_lit 18142085324872, nat_lit 17867273773128, nat_lit 52813208330312, nat_lit 18691840909384, nat_lit 19791352799304, nat_lit 21990376317000, nat_lit 12649198781000, nat_lit 44846354268744, nat_lit 13748643824200, nat_lit 45240450843208, nat_lit 46651280753224,
  nat_lit 48538919141960, nat_lit 14298432733768, nat_lit 48694611477064, nat_lit 15397877776968, nat_lit 17596901294664, nat_lit 11077760848456, nat_lit 45473939591752, nat_lit 13276717519432, nat_lit 9584152449608, nat_lit 13194005615176, nat_lit 13982132376136, nat_lit 13276750615112,
  nat_lit 14687580525128, nat_lit 15475707286088, nat_lit 17674730803784, nat_lit 15397961081416, nat_lit 48694628196936, nat_lit 49482754957896, nat_lit 17596918014536, nat_lit 13354596868680, nat_lit 15864938406472, nat_lit 49638414000712, nat_lit 17752577057352, nat_lit 13748660150856,
  nat_lit 14059978433096, nat_lit 17047128449608, nat_lit 18146640339528, nat_lit 17596950880840, nat_lit 17908269163080, nat_lit 18696395924040, nat_lit 19795907813960, nat_lit 21994931331656, nat_lit 17042681889864, nat_lit 48964959470664, nat_lit 49203330417736, nat_lit 18142127195208,
  nat_lit 49496494998600, nat_lit 50632447001672, nat_lit 48671794693192, nat_lit 52794963559496, nat_lit 49615680373832, nat_lit 48552609121352, nat_lit 50990003323976, nat_lit 52914148934728, nat_lit 18691915875400, nat_lit 52813216711752, nat_lit 53051587658824, nat_lit 19791361180744,
  nat_lit 21990384698440, nat_lit 15402524480584, nat_lit 49523825316936, nat_lit 48662684636232, nat_lit 17601481413704, nat_lit 13771477128264, nat_lit 17106452386888, nat_lit 49230660539464, nat_lit 18169457316936, nat_lit 48525278778440, nat_lit 49661230781512, nat_lit 50999113356360,
  nat_lit 52923258967112, nat_lit 17601514280008, nat_lit 18737466283080, nat_lit 53060697691208, nat_lit 19800471213128, nat_lit 21999494730824, nat_lit 15462117155912, nat_lit 48483906364488, nat_lit 49821788939336, nat_lit 17661074089032, nat_lit 13281313989704, nat_lit 15516777620552,
  nat_lit 49840009028680, nat_lit 17679294178376, nat_lit 13950255178824, nat_lit 13986695554120, nat_lit 17523601384520, nat_lit 18348235367496, nat_lit 17661106955336, nat_lit 17697547330632, nat_lit 19035429905480, nat_lit 19860063888456, nat_lit 22059087406152, nat_lit 19791444194376,
  nat_lit 52813233402952, nat_lit 53051604350024, nat_lit 53876238333000, nat_lit 21990401389640, nat_lit 17610641028168, nat_lit 19846104659016, nat_lit 53069824439368, nat_lit 53894458422344, nat_lit 22008621478984, nat_lit 17729826403400, nat_lit 17766266778696, nat_lit 20203660981320,
  nat_lit 54013643797576, nat_lit 22127806854216, nat_lit 18142143296584, nat_lit 18178583671880, nat_lit 18416954618952, nat_lit 21440611857480, nat_lit 22540123747400, nat_lit 21990434026568, nat_lit 22026874401864, nat_lit 22265245348936, nat_lit 23089879331912, nat_lit 24189391221832,
  nat_lit 26388414739528, nat_lit 17523592396936, nat_lit 49136632332424, nat_lit 49168844849288, nat_lit 18348159795336, nat_lit 49822786683016, nat_lit 50649501040776, nat_lit 48482690302088, nat_lit 52846377336968, nat_lit 49838892843144, nat_lit 48466583945352, nat_lit 50697819717768,
  nat_lit 52862483497096, nat_lit 19035387429000, nat_lit 52847450620040, nat_lit 52879663136904, nat_lit 19859954827400, nat_lit 22058978345096, nat_lit 50990497665160, nat_lit 49618188767368, nat_lit 48550889656456, nat_lit 52914576691336, nat_lit 49204831490184, nat_lit 52230569103496,
  nat_lit 48964246737032, nat_lit 53327933771912, nat_lit 48671181836424, nat_lit 49497896194184, nat_lit 50629620338824, nat_lit 52794284118152, nat_lit 53052048511112, nat_lit 53878762868872, nat_lit 52811463757960, nat_lit 54976127537288, nat_lit 57175151054984, nat_lit 50998550732936,
  nat_lit 48526730207368, nat_lit 49658454352008, nat_lit 52922629759112, nat_lit 48663128744072, nat_lit 50589354729608, nat_lit 49522055618696, nat_lit 52786231025800, nat_lit 49228990718088, nat_lit 48956193448072, nat_lit 52286940848264, nat_lit 53352092999816, nat_lit 53060101578888,
  nat_lit 52787304308872, nat_lit 53919028453512, nat_lit 54984180605064, nat_lit 57183204122760, nat_lit 20203635224712, nat_lit 52916186787976, nat_lit 52948399304840, nat_lit 54013551456392, nat_lit 22127714513032, nat_lit 53052585324680, nat_lit 54978811310216, nat_lit 52812000571528,
  nat_lit 53877152723080, nat_lit 57175687868552, nat_lit 53068691484808, nat_lit 52795894214792, nat_lit 55027129987208, nat_lit 53893258883208, nat_lit 57191794028680, nat_lit 18416895373448, nat_lit 53328470192264, nat_lit 53360682709128, nat_lit 21440486027400, nat_lit 22539997917320,
  nat_lit 22265186103432, nat_lit 57176760922248, nat_lit 57208973439112, nat_lit 23089753501832, nat_lit 24189265391752, nat_lit 26388288909448, nat_lit 17042816107144, nat_lit 49205611856520, nat_lit 48962946466440, nat_lit 18142261412488, nat_lit 49616888300168, nat_lit 50993358471816,
  nat_lit 48551669826184, nat_lit 52915356861064, nat_lit 49495555506824, nat_lit 48673002422920, nat_lit 50629360288392, nat_lit 52794024067720, nat_lit 18692050092680, nat_lit 53053869097608, nat_lit 52811203707528, nat_lit 19791495398024, nat_lit 21990518915720, nat_lit 15462788240008,
  nat_lit 49824607244936, nat_lit 48482430227080, nat_lit 17661745173128, nat_lit 13951999971976, nat_lit 17527493399176, nat_lit 49170665214600, nat_lit 18349980160648, nat_lit 48465283453576, nat_lit 49841753625224, nat_lit 50698599862920, nat_lit 52863263642248, nat_lit 17661778039432,
  nat_lit 19038248211080, nat_lit 52880443282056, nat_lit 19860734972552, nat_lit 22059758490248, nat_lit 50586493919880, nat_lit 48664429208200, nat_lit 49521275445896, nat_lit 52785450853000, nat_lit 48525949837960, nat_lit 51001931637384, nat_lit 49659754619528, nat_lit 52923930026632,
  nat_lit 48954372858504, nat_lit 49231331402376, nat_lit 52287200895624, nat_lit 53352353047176, nat_lit 52785483719304, nat_lit 53062442263176, nat_lit 53919288500872, nat_lit 54984440652424, nat_lit 57183464170120, nat_lit 19791578411656, nat_lit 53053885788808, nat_lit 52811220398728,
  nat_lit 53876372550280, nat_lit 21990535606920, nat_lit 17731034329736, nat_lit 20207016129160, nat_lit 52949699572360, nat_lit 54014851723912, nat_lit 22129014780552, nat_lit 52794073625224, nat_lit 53071032169096, nat_lit 55027390034568, nat_lit 53893518930568, nat_lit 57192054076040,
  nat_lit 18142277513864, nat_lit 18419236057736, nat_lit 53360942756488, nat_lit 21440746074760, nat_lit 22540257964680, nat_lit 21990568243848, nat_lit 22267526787720, nat_lit 57209233486472, nat_lit 23090013549192, nat_lit 24189525439112, nat_lit 26388548956808, nat_lit 17046842639496,
  nat_lit 48934760481928, nat_lit 49241850905736, nat_lit 18146287944840, nat_lit 49483475879048, nat_lit 50585068143752, nat_lit 48693135312008, nat_lit 52781944439944, nat_lit 49637020992648, nat_lit 48539590001800, nat_lit 51045703681160, nat_lit 52935489553544, nat_lit 18696076625032,
  nat_lit 52783017723016, nat_lit 53090108146824, nat_lit 19795521930376, nat_lit 21994545448072, nat_lit 15398095295624, nat_lit 49485036393608, nat_lit 48692615189640, nat_lit 17597052228744, nat_lit 13749868074120, nat_lit 17050483594376, nat_lit 49243411223688, nat_lit 18147848262792,
  nat_lit 48538029462664, nat_lit 49639621727368, nat_lit 51046223778952, nat_lit 52936009651336, nat_lit 17597085095048, nat_lit 18698677359752, nat_lit 53090628244616, nat_lit 19796042028168, nat_lit 21995065545864, nat_lit 15474867840136, nat_lit 48462297310344, nat_lit 49868899361928,
  nat_lit 17673824773256, nat_lit 13276884804744, nat_lit 15477988697224, nat_lit 49869939582088, nat_lit 17674864993416, nat_lit 13980185732232, nat_lit 13982266369160, nat_lit 17587891676296, nat_lit 18378165920904, nat_lit 17673857639560, nat_lit 17675938276488, nat_lit 19082540328072,
  nat_lit 19872814572680, nat_lit 22071838090376, nat_lit 19795604944008, nat_lit 52783034414216, nat_lit 53090124838024, nat_lit 53880399082632, nat_lit 21994562139272, nat_lit 17597621908616, nat_lit 19798725801096, nat_lit 53091165058184, nat_lit 53881439302792, nat_lit 21995602359432,
  nat_lit 17751167022216, nat_lit 17753247659144, nat_lit 20259361338504, nat_lit 54034984416392, nat_lit 22149147473032, nat_lit 18146304046216, nat_lit 18148384683144, nat_lit 18455475106952, nat_lit 21444772607112, nat_lit 22544284497032, nat_lit 21994594776200, nat_lit 21996675413128,
  nat_lit 22303765836936, nat_lit 23094040081544, nat_lit 24193551971464, nat_lit 26392575489160, nat_lit 21440594183816, nat_lit 53328512026248, nat_lit 53360724543112, nat_lit 53601242973832, nat_lit 22540039751304, nat_lit 53877227423368, nat_lit 54978819688072, nat_lit 52812008949384,
  nat_lit 53052527380104, nat_lit 57175696246408, nat_lit 53893333583496, nat_lit 52795902592648, nat_lit 55027138365064, nat_lit 53068633540232, nat_lit 57191802406536, nat_lit 54013592700552, nat_lit 52916161709704, nat_lit 52948374226568, nat_lit 55387915912840, nat_lit 57312061523592,
  nat_lit 23089828202120, nat_lit 57176769300104, nat_lit 57208981816968, nat_lit 57449500247688, nat_lit 24189273769608, nat_lit 26388297287304, nat_lit 19791846839944, nat_lit 53878787937928, nat_lit 52811488827016, nat_lit 53052007257736, nat_lit 21990804035208, nat_lit 18143619618440,
  nat_lit 21444235138696, nat_lit 53362284861064, nat_lit 53602803291784, nat_lit 22541600069256, nat_lit 52794342053512, nat_lit 53895934318216, nat_lit 55027658462856, nat_lit 53069153638024, nat_lit 57192322504328, nat_lit 52914601170568, nat_lit 54016193435272, nat_lit 52948894324360,
  nat_lit 55388436010632, nat_lit 57312581621384, nat_lit 21990836672136, nat_lit 23092428936840, nat_lit 57209501914760, nat_lit 57450020345480, nat_lit 24189793867400, nat_lit 26388817385096, nat_lit 19799899907720, nat_lit 52787329377928, nat_lit 53919053522568, nat_lit 53060060325512,
  nat_lit 21998857102984, nat_lit 17601916872328, nat_lit 19803020764808, nat_lit 53920093742728, nat_lit 53061100545672, nat_lit 21999897323144, nat_lit 18167778846344, nat_lit 18169859483272, nat_lit 21500606883464, nat_lit 53626962519688, nat_lit 22565759297160, nat_lit 52922654238344,
  nat_lit 52924734875272, nat_lit 54056459019912, nat_lit 55396489078408, nat_lit 57320634689160, nat_lit 21998889739912, nat_lit 22000970376840, nat_lit 23132694521480, nat_lit 57458073413256, nat_lit 24197846935176, nat_lit 26396870452872, nat_lit 19860029453960, nat_lit 52847458924168,
  nat_lit 52879671441032, nat_lit 54219701499528, nat_lit 22058986649224, nat_lit 17662046418568, nat_lit 19863150311048, nat_lit 52880711661192, nat_lit 54220741719688, nat_lit 22060026869384, nat_lit 17678152578696, nat_lit 17680233215624, nat_lit 19911468988040, nat_lit 54236847879816,
  nat_lit 22076133029512, nat_lit 18348167509640, nat_lit 18350248146568, nat_lit 18382460663432, nat_lit 21921513977480, nat_lit 22746147960456, nat_lit 22059019286152, nat_lit 22061099923080, nat_lit 22093312439944, nat_lit 23433342498440, nat_lit 24257976481416, nat_lit 26456999999112,
  nat_lit 24189356492424, nat_lit 57176785962632, nat_lit 57208998479496, nat_lit 57449516910216, nat_lit 58274150893192, nat_lit 26388313949832, nat_lit 21991373457032, nat_lit 24192477349512, nat_lit 57210038699656, nat_lit 57450557130376, nat_lit 58275191113352, nat_lit 26389354169992,
  nat_lit 22007479617160, nat_lit 22009560254088, nat_lit 24240796026504, nat_lit 57466663290504, nat_lit 58291297273480, nat_lit 26405460330120, nat_lit 22127738734216, nat_lit 22129819371144, nat_lit 22162031888008, nat_lit 24601573574280, nat_lit 58411556390536, nat_lit 26525719447176,
  nat_lit 22540055627400, nat_lit 22542136264328, nat_lit 22574348781192, nat_lit 22814867211912, nat_lit 25838524450440, nat_lit 26938036340360, nat_lit 26388346357384, nat_lit 26390426994312, nat_lit 26422639511176, nat_lit 26663157941896, nat_lit 27487791924872, nat_lit 28587303814792,
  nat_lit 30786327332488]
noncomputable def zk_T (n : Nat) : List Nat := if n = 1 then zk_T1 else if n = 2 then zk_T2 else if n = 3 then zk_T3 else if n = 4 then zk_T4 else if n = 5 then zk_T5 else if n = 6 then zk_T6 else zk_T7
theorem zk_c1 : zk_leq (zp_gn 1) (zk_T1.map zk_c) = true := by decide +kernel
theorem zk_e1 : zk_leq (zk_T1.map (fun r => zk_pk 1 (zk_c r))) zk_T1 = true := by decide +kernel
theorem zk_l1 : Nat.beq zk_T1.length 1 = true := by decide +kernel
theorem zk_c2 : zk_leq (zp_gs 1 (zk_T1.map zk_c)) (zk_T2.map zk_c) = true := by decide +kernel
theorem zk_e2 : zk_leq (zk_T2.map (fun r => zk_pk 2 (zk_c r))) zk_T2 = true := by decide +kernel
theorem zk_l2 : Nat.beq zk_T2.length 2 = true := by decide +kernel
theorem zk_c3 : zk_leq (zp_gs 2 (zk_T2.map zk_c)) (zk_T3.map zk_c) = true := by decide +kernel
theorem zk_e3 : zk_leq (zk_T3.map (fun r => zk_pk 3 (zk_c r))) zk_T3 = true := by decide +kernel
theorem zk_l3 : Nat.beq zk_T3.length 5 = true := by decide +kernel
theorem zk_c4 : zk_leq (zp_gs 3 (zk_T3.map zk_c)) (zk_T4.map zk_c) = true := by decide +kernel
theorem zk_e4 : zk_leq (zk_T4.map (fun r => zk_pk 4 (zk_c r))) zk_T4 = true := by decide +kernel
theorem zk_l4 : Nat.beq zk_T4.length 15 = true := by decide +kernel
theorem zk_c5 : zk_leq (zp_gs 4 (zk_T4.map zk_c)) (zk_T5.map zk_c) = true := by decide +kernel
theorem zk_e5 : zk_leq (zk_T5.map (fun r => zk_pk 5 (zk_c r))) zk_T5 = true := by decide +kernel
theorem zk_l5 : Nat.beq zk_T5.length 52 = true := by decide +kernel
theorem zk_c6 : zk_leq (zp_gs 5 (zk_T5.map zk_c)) (zk_T6.map zk_c) = true := by decide +kernel
theorem zk_e6 : zk_leq (zk_T6.map (fun r => zk_pk 6 (zk_c r))) zk_T6 = true := by decide +kernel
theorem zk_l6 : Nat.beq zk_T6.length 203 = true := by decide +kernel
theorem zk_c7 : zk_leq (zp_gs 6 (zk_T6.map zk_c)) (zk_T7.map zk_c) = true := by decide +kernel
theorem zk_e7 : zk_leq (zk_T7.map (fun r => zk_pk 7 (zk_c r))) zk_T7 = true := by decide +kernel
theorem zk_l7 : Nat.beq zk_T7.length 877 = true := by decide +kernel
theorem zk_g1 : zp_gn 1 = zk_T1.map zk_c := zk_leq_eq zk_c1
theorem zk_g2 : zp_gn 2 = zk_T2.map zk_c := by rw [zp_gn_s, zk_g1]; exact zk_leq_eq zk_c2
theorem zk_g3 : zp_gn 3 = zk_T3.map zk_c := by rw [zp_gn_s, zk_g2]; exact zk_leq_eq zk_c3
theorem zk_g4 : zp_gn 4 = zk_T4.map zk_c := by rw [zp_gn_s, zk_g3]; exact zk_leq_eq zk_c4
theorem zk_g5 : zp_gn 5 = zk_T5.map zk_c := by rw [zp_gn_s, zk_g4]; exact zk_leq_eq zk_c5
theorem zk_g6 : zp_gn 6 = zk_T6.map zk_c := by rw [zp_gn_s, zk_g5]; exact zk_leq_eq zk_c6
theorem zk_g7 : zp_gn 7 = zk_T7.map zk_c := by rw [zp_gn_s, zk_g6]; exact zk_leq_eq zk_c7
/-- seven cases -/
theorem zk_7 {P : Nat → List Nat → Prop} (h1 : P 1 zk_T1) (h2 : P 2 zk_T2) (h3 : P 3 zk_T3) (h4 : P 4 zk_T4) (h5 : P 5 zk_T5) (h6 : P 6 zk_T6) (h7 : P 7 zk_T7) {n : Nat} (a : 1 ≤ n) (b : n ≤ 7) : P n (zk_T n) := by
  have h : n = 1 ∨ n = 2 ∨ n = 3 ∨ n = 4 ∨ n = 5 ∨ n = 6 ∨ n = 7 := by omega
  rcases h with h | h | h | h | h | h | h <;> subst h
  · exact h1
  · exact h2
  · exact h3
  · exact h4
  · exact h5
  · exact h6
  · exact h7
theorem zk_g {n : Nat} (a : 1 ≤ n) (b : n ≤ 7) : zp_gn n = (zk_T n).map zk_c := zk_7 (P := fun n T => zp_gn n = T.map zk_c) zk_g1 zk_g2 zk_g3 zk_g4 zk_g5 zk_g6 zk_g7 a b
theorem zk_e {n : Nat} (a : 1 ≤ n) (b : n ≤ 7) : (zk_T n).map (fun r => zk_pk n (zk_c r)) = zk_T n := zk_7 (P := fun n T => T.map (fun r => zk_pk n (zk_c r)) = T) (zk_leq_eq zk_e1) (zk_leq_eq zk_e2) (zk_leq_eq zk_e3) (zk_leq_eq zk_e4) (zk_leq_eq zk_e5) (zk_leq_eq zk_e6) (zk_leq_eq zk_e7) a b
theorem zk_len {n : Nat} (a : 1 ≤ n) (b : n ≤ 7) : 1 ≤ (zk_T n).length ∧ (zk_T n).length ≤ 877 := by
  refine zk_7 (P := fun n T => 1 ≤ T.length ∧ T.length ≤ 877) ?_ ?_ ?_ ?_ ?_ ?_ ?_ a b
  · have := Nat.eq_of_beq_eq_true zk_l1; omega
  · have := Nat.eq_of_beq_eq_true zk_l2; omega
  · have := Nat.eq_of_beq_eq_true zk_l3; omega
  · have := Nat.eq_of_beq_eq_true zk_l4; omega
  · have := Nat.eq_of_beq_eq_true zk_l5; omega
  · have := Nat.eq_of_beq_eq_true zk_l6; omega
  · have := Nat.eq_of_beq_eq_true zk_l7; omega
/-! the table by its places -/
noncomputable def zt_N (n : Nat) : Nat := (zk_T n).length
noncomputable def zt_r (n k : Nat) : Nat := (zk_T n).getD k 0
noncomputable def zt_c (n k : Nat) : Nat := zk_c (zt_r n k)
noncomputable def zt_p (n k : Nat) : Nat := zk_p (zt_r n k)
noncomputable def zt_n (n k : Nat) : Nat := zk_n (zt_r n k)
noncomputable def zt_x (n k : Nat) : Nat := zk_x (zt_r n k)
theorem zt_N_le {n : Nat} (a : 1 ≤ n) (b : n ≤ 7) : 1 ≤ zt_N n ∧ zt_N n ≤ 877 := zk_len a b
theorem zt_get {n k : Nat} (h : k < zt_N n) : (zk_T n)[k]? = some (zt_r n k) := by
  unfold zt_r
  rw [List.getD_eq_getElem?_getD, List.getElem?_eq_getElem h]
  rfl
theorem zt_mem {n k : Nat} (h : k < zt_N n) : zt_r n k ∈ zk_T n := List.mem_iff_getElem?.mpr ⟨k, zt_get h⟩
theorem zt_ix {n r : Nat} (h : r ∈ zk_T n) : ∃ k, k < zt_N n ∧ zt_r n k = r := by
  obtain ⟨k, hk⟩ := List.mem_iff_getElem?.mp h
  have h1 : k < zt_N n := (List.getElem?_eq_some_iff.mp hk).1
  refine ⟨k, h1, ?_⟩
  have h2 := zt_get h1
  rw [hk] at h2
  exact (Option.some.inj h2).symm
theorem zt_gn {n k : Nat} (a : 1 ≤ n) (b : n ≤ 7) (h : k < zt_N n) : zt_c n k ∈ zp_gn n := by
  rw [zk_g a b]
  exact List.mem_map.mpr ⟨_, zt_mem h, rfl⟩
theorem zt_of {n c : Nat} (a : 1 ≤ n) (b : n ≤ 7) (h : c ∈ zp_gn n) : ∃ k, k < zt_N n ∧ zt_c n k = c := by
  rw [zk_g a b] at h
  obtain ⟨r, hr, e⟩ := List.mem_map.mp h
  obtain ⟨k, hk, e2⟩ := zt_ix hr
  exact ⟨k, hk, by unfold zt_c; rw [e2, e]⟩
theorem zt_pk {n k : Nat} (a : 1 ≤ n) (b : n ≤ 7) (h : k < zt_N n) : zt_r n k = zk_pk n (zt_c n k) := by
  have h1 := congrArg (fun l => l[k]?) (zk_e a b)
  simp only [List.getElem?_map] at h1
  rw [zt_get h] at h1
  exact (Option.some.inj h1).symm
theorem zt_lt {n k : Nat} (a : 1 ≤ n) (b : n ≤ 7) (h : k < zt_N n) : zt_c n k < 8 ^ n ∧ zp_rg n (zp_dg (zt_c n k)) := (zp_gn_mem n b _).mp (zt_gn a b h)
theorem zt_rg {n k : Nat} (a : 1 ≤ n) (b : n ≤ 7) (h : k < zt_N n) : ∀ i, i < n → zp_dg (zt_c n k) i < 7 := fun i hi => (zp_rg_lt b (zt_lt a b h).2 i hi).2
theorem zt_c21 (n k : Nat) : zt_c n k < 2097152 := Nat.mod_lt _ (by decide)
theorem zt_all {n k : Nat} (a : 1 ≤ n) (b : n ≤ 7) (h : k < zt_N n) : zt_p n k = zp_tg n (zp_dg (zt_c n k)) ∧ zt_n n k = zp_mx (zp_dg (zt_c n k)) n + 1 ∧ zt_x n k = (if zp_cb n (zp_dg (zt_c n k)) then 1 else 0) := by
  have h0 := zt_pk a b h
  have h1 := zt_c21 n k
  have h2 : zp_tg n (zp_dg (zt_c n k)) < 2097152 := zp_tg_lt b
  have h3 : zp_mx (zp_dg (zt_c n k)) n < 7 := zp_mx_lt (by decide) n (zt_rg a b h)
  unfold zk_pk at h0
  generalize zp_tg n (zp_dg (zt_c n k)) = P at h0 h2 ⊢
  generalize zp_mx (zp_dg (zt_c n k)) n = M at h0 h3 ⊢
  unfold zt_p zt_n zt_x zk_p zk_n zk_x
  generalize zt_r n k = R at h0 ⊢
  generalize zt_c n k = C at h0 h1 ⊢
  generalize zp_cb n (zp_dg C) = X at h0 ⊢
  cases X
  · simp only [Bool.false_eq_true, if_false] at h0 ⊢; omega
  · simp only [if_true] at h0 ⊢; omega
theorem zt_pu {n k j : Nat} (a : 1 ≤ n) (b : n ≤ 7) (h : k < zt_N n) (h2 : j < zt_N n) (e : zt_p n k = zt_p n j) : zt_c n k = zt_c n j := by
  rw [(zt_all a b h).1, (zt_all a b h2).1] at e
  exact zp_cu b (zt_gn a b h) (zt_gn a b h2) e
theorem zt_cr {n k j : Nat} (a : 1 ≤ n) (b : n ≤ 7) (h : k < zt_N n) (h2 : j < zt_N n) (e : zt_c n k = zt_c n j) : zt_r n k = zt_r n j := by
  rw [zt_pk a b h, zt_pk a b h2, e]
end
section
/-! numbers at the ints -/
theorem zb_ix (e i : Nat) : (7 : Int32) * nI e + nI i = nI (7 * e + i) := by
  show nI 7 * nI e + nI i = _
  rw [pk_mul, nI_add]
theorem zb_7m (e : Nat) : (7 : Int32) * nI e = nI (7 * e) := pk_mul 7 e
theorem zb_8m (e : Nat) : (8 : Int32) * nI e = nI (8 * e) := pk_mul 8 e
theorem zb_3m (e : Nat) : (3 : Int32) * nI e = nI (3 * e) := pk_mul 3 e
theorem zb_2m (e : Nat) : (2 : Int32) * nI e = nI (2 * e) := pk_mul 2 e
theorem zb_14 (i : Nat) : (14 : Int32) + nI i = nI (14 + i) := nI_add 14 i
theorem zb_7a (i : Nat) : (7 : Int32) + nI i = nI (7 + i) := nI_add 7 i
theorem zb_8a (i : Nat) : (8 : Int32) + nI i = nI (8 + i) := nI_add 8 i
theorem zb_s1 {n : Nat} (h : 1 ≤ n) : nI n - 1 = nI (n - 1) := pk_sub (b := 1) h
theorem zb_m1 {n : Nat} (h : 1 ≤ n) : nI n + (-1) = nI (n - 1) := by
  obtain ⟨m, rfl⟩ : ∃ m, n = m + 1 := ⟨n - 1, by omega⟩
  exact pk_m1 m
theorem zb_i8 : ∀ a, a < 128 → (nI a).toInt8.toInt32 = nI a := by decide +kernel
theorem zb_nb {a : Nat} (h : a < 128) : vp_nar .byte (nI a).toInt8.toInt32 = nI a := by rw [pk_vb, zb_i8 a h]
theorem zb_n1 {a : Nat} (h : a < 128) : vp_nar .byte (nI a) = nI a := by rw [vp_nar_byte, zb_i8 a h]
theorem zb_nm1 : vp_nar .byte (-1) = -1 := by rw [vp_nar_byte]; decide +kernel
theorem zb_n7 : vp_nar .byte 7 = nI 7 := by rw [vp_nar_byte]; decide +kernel
theorem zb_n0 : vp_nar .byte 0 = nI 0 := by rw [vp_nar_byte]; decide +kernel
theorem zb_mod {a b : Nat} (h : a % 4294967296 = b % 4294967296) : nI a = nI b := by
  apply Int32.toBitVec_inj.mp
  apply BitVec.eq_of_toNat_eq
  show a % 2 ^ 32 = b % 2 ^ 32
  exact h
/-- a counter going down: -1 behind 0 -/
def zb_d : Nat → Int32
  | 0 => -1
  | i + 1 => nI i
theorem zb_d_s (i : Nat) : zb_d (i + 1) + (-1) = zb_d i := by
  cases i with
  | zero => show nI 0 + (-1) = -1; decide +kernel
  | succ i => exact pk_m1 i
theorem zb_d_1 {n : Nat} (h : 1 ≤ n) : nI n - 1 = zb_d n := by
  obtain ⟨m, rfl⟩ : ∃ m, n = m + 1 := ⟨n - 1, by omega⟩
  exact nI_pred m
theorem zb_d_0 : zb_d 0 < 0 := by decide +kernel
/-- a truth as an int -/
def zb_b (b : Bool) : Int32 := if b then 1 else 0
theorem zb_bt : zb_b true = 1 := rfl
theorem zb_bf : zb_b false = 0 := rfl
theorem zb_10 : ¬ (1 : Int32) = 0 := by decide
theorem zb_b0 {b : Bool} : zb_b b = 0 ↔ b = false := by
  cases b
  · exact ⟨fun _ => rfl, fun _ => rfl⟩
  · exact ⟨fun h => absurd h zb_10, fun h => absurd h (by decide)⟩
theorem zb_nar (b : Bool) : narrow .boolean (.int (zb_b b)) = .int (zb_b b) := by cases b <;> rfl
theorem zb_vnb (b : Bool) : vp_nar .boolean (zb_b b) = zb_b b := by cases b <;> decide
theorem zb_8p (i : Nat) : 2 ^ (3 * i) = 8 ^ i := by rw [Nat.pow_mul]
theorem zb_sh {c i : Nat} (hc : c < 2 ^ 31) (hi : i < 10) : (nI c >>> ((3 * nI i) &&& 31)) &&& 7 = nI (zp_dg c i) := by
  rw [zb_3m, pk_shrN hc _ (3 * i) (s_l (3 * i) (by omega)), zb_8p]
  have h : c / 8 ^ i ≤ c := Nat.div_le_self _ _
  rw [pk_andN (by omega) 3 (by decide)]
  rfl
theorem zb_sl {n : Nat} (hn : n ≤ 10) : (1 : Int32) <<< ((3 * nI n) &&& 31) = nI (8 ^ n) := by
  have h1 : 2 ^ (3 * n) ≤ 2 ^ 30 := Nat.pow_le_pow_right (by decide) (by omega)
  show nI 1 <<< ((3 * nI n) &&& 31) = _
  rw [zb_3m, pk_shlN _ (3 * n) (s_l (3 * n) (by omega)) (by omega), zb_8p, Nat.one_mul]
theorem zb_8n {n : Nat} (hn : n ≤ 7) : 8 ^ n ≤ 2097152 := Nat.le_trans (Nat.pow_le_pow_right (by decide) hn) (by decide : 8 ^ 7 ≤ 2097152)
/-- a word as an element or a point -/
theorem zb_el (x : Int32) : (x < 0) ∨ (¬ x < 0 ∧ ¬ x ≤ 1) ∨ ∃ e, e < 2 ∧ x = nI e := by
  by_cases h : x < 0
  · exact Or.inl h
  · by_cases h1 : x ≤ 1
    · obtain ⟨j, hj, e⟩ := nI_of2 (M := 1) (n := 1) (by decide) h h1
      exact Or.inr (Or.inr ⟨j, by omega, e⟩)
    · exact Or.inr (Or.inl ⟨h, h1⟩)
theorem zb_pt (x : Int32) {n : Nat} (hn : n ≤ 7) : (x < 0) ∨ (¬ x < 0 ∧ ¬ x < nI n) ∨ ∃ i, i < n ∧ x = nI i := by
  by_cases h : x < 0
  · exact Or.inl h
  · obtain ⟨j, hj, rfl⟩ := nI_of h
    by_cases h1 : j < n
    · exact Or.inr (Or.inr ⟨j, h1, rfl⟩)
    · exact Or.inr (Or.inl ⟨h, fun z => h1 ((nI_ltI hj (by omega)).mp z)⟩)
theorem zb_e1 {e : Nat} (h : e < 2) : nI e ≤ 1 := nI_le (b := 1) (by omega) (by decide)
/-! rows -/
def zx_R (a : Nat → Int32) (o n : Nat) (f : Nat → Nat) : Prop := ∀ j, j < n → a (o + j) = nI (f j)
theorem zx_R_c {a : Nat → Int32} {o n : Nat} {f g : Nat → Nat} (h : ∀ j, j < n → f j = g j) (R : zx_R a o n f) : zx_R a o n g := fun j hj => by rw [← h j hj]; exact R j hj
theorem zx_R_a {a b : Nat → Int32} {o n : Nat} {f : Nat → Nat} (h : ∀ j, j < n → b (o + j) = a (o + j)) (R : zx_R a o n f) : zx_R b o n f := fun j hj => by rw [h j hj]; exact R j hj
def zp_st (h : Nat → Nat) (i v : Nat) : Nat → Nat := fun j => if j = i then v else h j
theorem zp_st_s (h : Nat → Nat) (i v : Nat) : zp_st h i v i = v := if_pos rfl
theorem zp_st_n {h : Nat → Nat} {i v j : Nat} (z : j ≠ i) : zp_st h i v j = h j := if_neg z
/-! numbering on: an old block, a new one -/
def zp_pt (n : Nat) (h f : Nat → Nat) : Prop := ∀ a b, a < n → b < n → (h a = h b ↔ f a = f b)
theorem zp_to {i a : Nat} {h f : Nat → Nat} (G : zp_rg i h) (P : zp_pt i h f) (ha : a < i) (e : f a = f i) : zp_rg (i + 1) (zp_st h i (h a)) ∧ zp_pt (i + 1) (zp_st h i (h a)) f ∧ zp_bl (zp_st h i (h a)) (i + 1) = zp_bl h i := by
  have hs : ∀ j, j < i → h j = zp_st h i (h a) j := fun j hj => (zp_st_n (by omega)).symm
  have hb : zp_bl (zp_st h i (h a)) i = zp_bl h i := (zp_bl_c i hs).symm
  have ho : h a < zp_bl h i := (zp_occ G i (Nat.le_refl i) (h a)).mpr ⟨a, ha, rfl⟩
  refine ⟨?_, ?_, ?_⟩
  · intro j hj
    rcases Nat.lt_or_ge j i with z | z
    · exact zp_rg_c hs G j z
    · have ej : j = i := by omega
      rw [ej, zp_st_s, hb]
      omega
  · intro x y hx hy
    rcases Nat.lt_or_ge x i with zx | zx <;> rcases Nat.lt_or_ge y i with zy | zy
    · rw [zp_st_n (by omega), zp_st_n (by omega)]; exact P x y zx zy
    · have ey : y = i := by omega
      rw [ey, zp_st_s, zp_st_n (by omega), ← e]; exact P x a zx ha
    · have ex : x = i := by omega
      rw [ex, zp_st_s, zp_st_n (by omega), ← e]; exact P a y ha zy
    · have ex : x = i := by omega
      have ey : y = i := by omega
      rw [ex, ey]
      exact ⟨fun _ => rfl, fun _ => rfl⟩
  · rw [zp_bl_s, zp_st_s, hb, if_neg (by omega)]
theorem zp_tn {i : Nat} {h f : Nat → Nat} (G : zp_rg i h) (P : zp_pt i h f) (e : ∀ a, a < i → f a ≠ f i) : zp_rg (i + 1) (zp_st h i (zp_bl h i)) ∧ zp_pt (i + 1) (zp_st h i (zp_bl h i)) f ∧ zp_bl (zp_st h i (zp_bl h i)) (i + 1) = zp_bl h i + 1 := by
  have hs : ∀ j, j < i → h j = zp_st h i (zp_bl h i) j := fun j hj => (zp_st_n (by omega)).symm
  have hb : zp_bl (zp_st h i (zp_bl h i)) i = zp_bl h i := (zp_bl_c i hs).symm
  have ho : ∀ a, a < i → h a < zp_bl h i := fun a ha => (zp_occ G i (Nat.le_refl i) (h a)).mpr ⟨a, ha, rfl⟩
  refine ⟨?_, ?_, ?_⟩
  · intro j hj
    rcases Nat.lt_or_ge j i with z | z
    · exact zp_rg_c hs G j z
    · have ej : j = i := by omega
      rw [ej, zp_st_s, hb]
      exact Nat.le_refl _
  · intro x y hx hy
    rcases Nat.lt_or_ge x i with zx | zx <;> rcases Nat.lt_or_ge y i with zy | zy
    · rw [zp_st_n (by omega), zp_st_n (by omega)]; exact P x y zx zy
    · have ey : y = i := by omega
      rw [ey, zp_st_s, zp_st_n (by omega)]
      have h1 := ho x zx
      exact ⟨fun z => by omega, fun z => absurd z (e x zx)⟩
    · have ex : x = i := by omega
      rw [ex, zp_st_s, zp_st_n (by omega)]
      have h1 := ho y zy
      exact ⟨fun z => by omega, fun z => absurd z.symm (e y zy)⟩
    · have ex : x = i := by omega
      have ey : y = i := by omega
      rw [ex, ey]
      exact ⟨fun _ => rfl, fun _ => rfl⟩
  · rw [zp_bl_s, zp_st_s, hb, if_pos rfl]
theorem zp_rg0 (h : Nat → Nat) : zp_rg 0 h := fun i hi => absurd hi (Nat.not_lt_zero i)
theorem zp_pt0 (h f : Nat → Nat) : zp_pt 0 h f := fun a _ ha => absurd ha (Nat.not_lt_zero a)
/-- a row of block numbers is one of the table's -/
theorem zp_fin {n : Nat} {h f : Nat → Nat} (a : 1 ≤ n) (b : n ≤ 7) (G : zp_rg n h) (P : zp_pt n h f) : ∃ k, k < zt_N n ∧ (∀ i, i < n → h i = zp_dg (zt_c n k) i) ∧ zt_p n k = zp_tg n f ∧ zt_n n k = zp_bl h n := by
  have h8 : ∀ i, i < n → h i < 8 := fun i hi => by have := zp_rg_lt b G i hi; omega
  have hd := zp_dg_en n h8
  have hm : zp_en h n ∈ zp_gn n := (zp_gn_mem n b _).mpr ⟨zp_en_lt n h8, zp_rg_c (fun i hi => (hd i hi).symm) G⟩
  obtain ⟨k, hk, e⟩ := zt_of a b hm
  have hq : ∀ i, i < n → h i = zp_dg (zt_c n k) i := fun i hi => by rw [e, hd i hi]
  obtain ⟨h1, h2, h3⟩ := zt_all a b hk
  refine ⟨k, hk, hq, ?_, ?_⟩
  · rw [h1]
    apply zp_tg_c
    intro i j hi hj
    rw [← hq i hi, ← hq j hj]
    exact P i j hi hj
  · rw [h2, ← zp_mx_c n hq]
    obtain ⟨m, rfl⟩ : ∃ m, n = m + 1 := ⟨n - 1, by omega⟩
    exact (zp_bm G m (Nat.le_refl _)).symm
end
section
section
variable {n e : Nat} {re pa wa pd ba : Nat → Int32}
theorem zx_at1 {post : Int32 → Prop} {x : Int32} {bk : Nat → Int32} {i v : Nat} (hn : n ≤ 7) (he : e < 2) (hi : i < n) (hr : bk (7 * e + i) = nI v) (h : post (nI v)) : wpX_at post (x, bk, re, pa, wa, pd, ba) (nI e) (nI i) := by
  show vp_in (7 * nI e + nI i) 21 ∧ post (bk (7 * nI e + nI i).toNatClampNeg)
  rw [zb_ix, nI_clamp (by omega), hr]
  exact ⟨vp_in_nI (by omega) (by omega), h⟩
theorem zx_at {post : Int32 → Prop} {x : Int32} {bk : Nat → Int32} {i : Nat} {f : Nat → Nat} (hn : n ≤ 7) (he : e < 2) (hi : i < n) (hr : zx_R bk (7 * e) n f) (h : post (nI (f i))) : wpX_at post (x, bk, re, pa, wa, pd, ba) (nI e) (nI i) := zx_at1 hn he hi (hr i hi) h
theorem zx_badE {post : Int32 → Prop} {u : SX} {x : Int32} (h1 : (x < 0 ∨ (¬ x < 0 ∧ ¬ x ≤ 1)) → post 1) (h0 : ∀ e, e < 2 → x = nI e → post 0) : wpX_badElement post u x := by
  rcases zb_el x with h | ⟨h, h'⟩ | ⟨e, he, rfl⟩
  · exact br_t h (h1 (Or.inl h))
  · exact br_f h (br_f h' (h1 (Or.inr ⟨h, h'⟩)))
  · exact br_f (nI_pos (by omega)) (br_t (zb_e1 he) (h0 e he rfl))
theorem zx_badP {post : Int32 → Prop} {x : Int32} {a b c d g h' : Nat → Int32} (hn : n ≤ 7) (h1 : (x < 0 ∨ (¬ x < 0 ∧ ¬ x < nI n)) → post 1) (h0 : ∀ i, i < n → x = nI i → post 0) : wpX_badPoint post (nI n, a, b, c, d, g, h') x := by
  rcases zb_pt x hn with h | ⟨h, h''⟩ | ⟨i, hi, rfl⟩
  · exact br_t h (h1 (Or.inl h))
  · exact br_f h (br_f h'' (h1 (Or.inr ⟨h, h''⟩)))
  · exact br_f (nI_pos (by omega)) (br_t (nI_lt hi (by omega)) (h0 i hi rfl))
theorem zx_bE0 {post : Int32 → Prop} {u : SX} (he : e < 2) (h : post 0) : wpX_badElement post u (nI e) := br_f (nI_pos (by omega)) (br_t (zb_e1 he) h)
theorem zx_bP0 {post : Int32 → Prop} {i : Nat} {a b c d g h' : Nat → Int32} (hn : n ≤ 7) (hi : i < n) (h : post 0) : wpX_badPoint post (nI n, a, b, c, d, g, h') (nI i) := br_f (nI_pos (by omega)) (br_t (nI_lt hi (by omega)) h)
/-! tidy -/
theorem zx_tidy2 {post : Int32 → SX → Prop} {x1 fn : Int32} {bk : Nat → Int32} (K : ∀ re' : Nat → Int32, (∀ j, j < 16 → re' j = -1) → ∃ N, wX_tidy_25 post x1 fn N 0 0 bk re' pa wa pd ba) : ∀ (N k : Nat) (re' : Nat → Int32), k ≤ 16 → 16 - k < N → (∀ j, j < k → re' j = -1) → wX_tidy_2 post x1 fn N (nI k) bk re' pa wa pd ba := by
  intro N
  induction N with
  | zero => intro k re' _ h; omega
  | succ N ih =>
    intro k re' hk hN h
    refine pk_le 16 k (fun z => ?_) (fun z => ?_)
    · exact K re' (fun j hj => h j (by omega))
    · refine ⟨vp_in_nI z (by omega), fun re2 e2 x e3 => ?_⟩
      rw [e3, nI_1]
      refine ih (k + 1) re2 (by omega) (by omega) (fun j hj => ?_)
      rw [e2, nI_clamp (by omega)]
      rcases Nat.lt_or_ge j k with w | w
      · rw [pk_un (by omega)]; exact h j w
      · have ej : j = k := by omega
        rw [ej, pk_us]
        exact zb_nm1
theorem zx_t63 {post : Int32 → SX → Prop} {J : Int32 → Int32 → (Nat → Int32) → (Nat → Int32) → (Nat → Int32) → (Nat → Int32) → (Nat → Int32) → (Nat → Int32) → Prop} {x x2 : Int32} {bk : Nat → Int32} {i l v : Nat} (hn : n ≤ 7) (he : e < 2) (hi : i < n) (hl : l < 16) (hv : re l = nI v) (hv1 : v < 128) (H : J x2 (nI (i + 1)) (upd bk (7 * e + i) (nI v)) re pa wa pd ba) : wX_tidy_63 post J (nI e) x2 (nI i) (nI l) x bk re pa wa pd ba := by
  unfold wX_tidy_63
  rw [zb_ix, nI_clamp (by omega : l < 2 ^ 31), nI_clamp (by omega : 7 * e + i < 2 ^ 31), hv, zb_n1 hv1]
  refine ⟨vp_in_nI hl (by omega), vp_in_nI (by omega) (by omega), fun b2 e2 x3 e3 => ?_⟩
  rw [e2, e3, nI_1]
  exact H
theorem zx_tidy25 {post : Int32 → SX → Prop} {bk0 : Nat → Int32} {f : Nat → Nat} (hn : n ≤ 7) (he : e < 2) (hf : ∀ i, i < n → f i < 16)
    (K : ∀ (bk' re' : Nat → Int32) (h : Nat → Nat), zp_rg n h → zp_pt n h f → zx_R bk' (7 * e) n h → (∀ j, (j < 7 * e ∨ 7 * e + n ≤ j) → bk' j = bk0 j) → post (nI (zp_bl h n)) (nI n, bk', re', pa, wa, pd, ba)) :
    ∀ (N i : Nat) (bk re : Nat → Int32) (h : Nat → Nat), i ≤ n → n - i < N → zp_rg i h → zp_pt i h f → (∀ v, v < 16 → (∀ a, a < i → f a ≠ v) → re v = -1) → (∀ a, a < i → re (f a) = nI (h a)) → zx_R bk (7 * e) i h → (∀ j, i ≤ j → j < n → bk (7 * e + j) = nI (f j)) → (∀ j, (j < 7 * e ∨ 7 * e + n ≤ j) → bk j = bk0 j) → wX_tidy_25 post (nI e) (nI n) N (nI (zp_bl h i)) (nI i) bk re pa wa pd ba := by
  intro N
  induction N with
  | zero => intro i bk re h _ hN; omega
  | succ N ih =>
    intro i bk re h hi hN G P H1 H2 R F T
    refine pk_le n i (fun z => ?_) (fun z => ?_)
    · have e1 : i = n := by omega
      subst e1
      exact K bk re h G P R T
    · have hfi := hf i z
      refine zx_at1 hn he z (F i (Nat.le_refl i) z) ?_
      refine And.intro (vp_in_nI hfi (by omega)) ?_
      rw [nI_clamp (by omega : f i < 2 ^ 31)]
      have hh : ∀ a, a < i → h a < 7 := fun a ha => (zp_rg_lt (by omega) G a ha).2
      by_cases q : ∃ a, a < i ∧ f a = f i
      · obtain ⟨a, ha, ea⟩ := q
        have hr : re (f i) = nI (h a) := by rw [← ea]; exact H2 a ha
        have ha7 := hh a ha
        obtain ⟨g1, g2, g3⟩ := zp_to G P ha ea
        rw [hr]
        refine br_t (nI_pos' (by omega)) ?_
        refine zx_t63 hn he z hfi hr (by omega) ?_
        rw [← g3]
        refine ih (i + 1) _ re _ (by omega) (by omega) g1 g2 ?_ ?_ ?_ ?_ ?_
        · intro v hv hq
          exact H1 v hv (fun b hb => hq b (by omega))
        · intro b hb
          rcases Nat.lt_or_ge b i with w | w
          · rw [zp_st_n (by omega)]; exact H2 b w
          · have eb : b = i := by omega
            rw [eb, zp_st_s, hr]
        · intro j hj
          rcases Nat.lt_or_ge j i with w | w
          · rw [zp_st_n (by omega), pk_un (by omega)]; exact R j w
          · have ej : j = i := by omega
            rw [ej, zp_st_s, pk_us]
        · intro j hj hj2
          rw [pk_un (by omega)]; exact F j (by omega) hj2
        · intro j hj
          rw [pk_un (by omega)]; exact T j hj
      · have q' : ∀ a, a < i → f a ≠ f i := fun a ha ea => q ⟨a, ha, ea⟩
        have hr : re (f i) = -1 := H1 (f i) hfi q'
        obtain ⟨g1, g2, g3⟩ := zp_tn G P q'
        have hb := zp_bl_le h i
        rw [hr]
        refine br_f (by decide) ?_
        refine And.intro (vp_in_nI hfi (by omega)) ?_
        intro re2 e2 x2 e3
        rw [e3, nI_1, ← g3]
        rw [zb_nb (by omega)] at e2
        refine zx_t63 hn he z hfi (v := zp_bl h i) (by rw [e2, pk_us]) (by omega) ?_
        refine ih (i + 1) _ re2 _ (by omega) (by omega) g1 g2 ?_ ?_ ?_ ?_ ?_
        · intro v hv hq
          rw [e2, pk_un (fun z => hq i (by omega) z.symm)]
          exact H1 v hv (fun b hb => hq b (by omega))
        · intro b hb
          rcases Nat.lt_or_ge b i with w | w
          · rw [zp_st_n (by omega), e2, pk_un (q' b w)]; exact H2 b w
          · have eb : b = i := by omega
            rw [eb, zp_st_s, e2, pk_us]
        · intro j hj
          rcases Nat.lt_or_ge j i with w | w
          · rw [zp_st_n (by omega), pk_un (by omega)]; exact R j w
          · have ej : j = i := by omega
            rw [ej, zp_st_s, pk_us]
        · intro j hj hj2
          rw [pk_un (by omega)]; exact F j (by omega) hj2
        · intro j hj
          rw [pk_un (by omega)]; exact T j hj
theorem zx_tidy {post : Int32 → SX → Prop} {bk : Nat → Int32} {f : Nat → Nat} (h1 : 1 ≤ n) (hn : n ≤ 7) (he : e < 2) (hr : zx_R bk (7 * e) n f) (hf : ∀ i, i < n → f i < 16)
    (K : ∀ (k : Nat) (bk' re' : Nat → Int32), k < zt_N n → zt_p n k = zp_tg n f → zx_R bk' (7 * e) n (zp_dg (zt_c n k)) → (∀ j, (j < 7 * e ∨ 7 * e + n ≤ j) → bk' j = bk j) → post (nI (zt_n n k)) (nI n, bk', re', pa, wa, pd, ba)) : wpX_tidy post (nI n, bk, re, pa, wa, pd, ba) (nI e) := by
  refine ⟨17, zx_tidy2 (fun re' h => ⟨n + 1, ?_⟩) 17 0 re (by omega) (by omega) (fun j hj => absurd hj (Nat.not_lt_zero j))⟩
  refine zx_tidy25 (bk0 := bk) hn he hf (fun bk' re'' h G P R T => ?_) (n + 1) 0 bk re' (fun _ => 0) (by omega) (by omega) (zp_rg0 _) (zp_pt0 _ _) (fun v hv _ => h v hv) (fun a ha => absurd ha (Nat.not_lt_zero a)) (fun a ha => absurd ha (Nat.not_lt_zero a)) (fun j _ hj => hr j hj) (fun j _ => rfl)
  obtain ⟨k, hk, d, p, c⟩ := zp_fin h1 hn G P
  rw [← c]
  exact K k bk' re'' hk p (zx_R_c d R) T
/-! unite -/
theorem zx_unite3 {post : SX → Prop} {bk0 : Nat → Int32} {f : Nat → Nat} {a b : Nat} (hn : n ≤ 7) (he : e < 2) (hf : ∀ i, i < n → f i < 16) (ha : a < 16) (hb : b < 16)
    (K : ∀ bk' : Nat → Int32, zx_R bk' (7 * e) n (fun j => if f j = b then a else f j) → (∀ j, (j < 7 * e ∨ 7 * e + n ≤ j) → bk' j = bk0 j) → post (nI n, bk', re, pa, wa, pd, ba)) :
    ∀ (N i : Nat) (bk : Nat → Int32), i ≤ n → n - i < N → zx_R bk (7 * e) i (fun j => if f j = b then a else f j) → (∀ j, i ≤ j → j < n → bk (7 * e + j) = nI (f j)) → (∀ j, (j < 7 * e ∨ 7 * e + n ≤ j) → bk j = bk0 j) → wX_unite_3 post (nI e) (nI a) (nI b) (nI n) N (nI i) bk re pa wa pd ba := by
  intro N
  induction N with
  | zero => intro i bk _ hN; omega
  | succ N ih =>
    intro i bk hi hN R F T
    refine pk_le n i (fun z => ?_) (fun z => ?_)
    · have e1 : i = n := by omega
      subst e1
      exact K bk R T
    · have hfi := hf i z
      rw [zb_ix, nI_clamp (by omega : 7 * e + i < 2 ^ 31), F i (Nat.le_refl i) z, zb_nb (by omega)]
      refine ⟨vp_in_nI (by omega) (by omega), pk_eq (f i) b (fun q => ⟨vp_in_nI (by omega) (by omega), fun b2 e2 x e3 => ?_⟩) (fun q x e3 => ?_)⟩
      · rw [e3, nI_1]
        refine ih (i + 1) b2 (by omega) (by omega) ?_ ?_ ?_
        · intro j hj
          rcases Nat.lt_or_ge j i with w | w
          · rw [e2, pk_un (by omega)]; exact R j w
          · have ej : j = i := by omega
            rw [ej, e2, pk_us]
            show nI a = nI (if f i = b then a else f i)
            rw [if_pos q]
        · intro j hj hj2
          rw [e2, pk_un (by omega)]; exact F j (by omega) hj2
        · intro j hj
          rw [e2, pk_un (by omega)]; exact T j hj
      · rw [e3, nI_1]
        refine ih (i + 1) bk (by omega) (by omega) ?_ (fun j hj hj2 => F j (by omega) hj2) T
        intro j hj
        rcases Nat.lt_or_ge j i with w | w
        · exact R j w
        · have ej : j = i := by omega
          rw [ej, F i (Nat.le_refl i) z]
          show nI (f i) = nI (if f i = b then a else f i)
          rw [if_neg q]
theorem zx_unite {post : SX → Prop} {bk : Nat → Int32} {f : Nat → Nat} {a b : Nat} (hn : n ≤ 7) (he : e < 2) (hr : zx_R bk (7 * e) n f) (hf : ∀ i, i < n → f i < 16) (ha : a < 16) (hb : b < 16)
    (K : ∀ bk' : Nat → Int32, zx_R bk' (7 * e) n (fun j => if f j = b then a else f j) → (∀ j, (j < 7 * e ∨ 7 * e + n ≤ j) → bk' j = bk j) → post (nI n, bk', re, pa, wa, pd, ba)) : wpX_unite post (nI n, bk, re, pa, wa, pd, ba) (nI e) (nI a) (nI b) :=
  ⟨n + 1, zx_unite3 (bk0 := bk) hn he hf ha hb K (n + 1) 0 bk (by omega) (by omega) (fun j hj => absurd hj (Nat.not_lt_zero j)) (fun j _ hj => hr j hj) (fun _ _ => rfl)⟩
/-! countBlocks, sizeOf, codeOf -/
theorem zx_cnt4 {post : Int32 → Prop} {bk : Nat → Int32} {f : Nat → Nat} (hn : n ≤ 7) (he : e < 2) (hr : zx_R bk (7 * e) n f) (hf : ∀ i, i < n → f i < 16) (K : post (nI (zp_mx f n + 1))) :
    ∀ (N i : Nat), i ≤ n → n - i < N → wX_countBlocks_4 post (nI e) (nI n) bk re pa wa pd ba N (nI (zp_mx f i)) (nI i) := by
  intro N
  induction N with
  | zero => intro i _ hN; omega
  | succ N ih =>
    intro i hi hN
    refine pk_le n i (fun z => ?_) (fun z => ?_)
    · have e1 : i = n := by omega
      subst e1
      rw [nI_1]
      exact K
    · have hfi := hf i z
      have hm : zp_mx f i < 16 := zp_mx_lt (by omega) i (fun j hj => hf j (by omega))
      refine zx_at hn he z hr ?_
      refine pk_le (f i) (zp_mx f i) (fun q x e3 => ?_) (fun q x e3 => ?_)
      · rw [e3, nI_1]
        have h1 := ih (i + 1) (by omega) (by omega)
        rw [zp_mx_s, if_pos q] at h1
        exact h1
      · rw [e3, nI_1]
        have h1 := ih (i + 1) (by omega) (by omega)
        rw [zp_mx_s, if_neg (by omega)] at h1
        exact h1
theorem zx_cnt {post : Int32 → Prop} {bk : Nat → Int32} {f : Nat → Nat} (hn : n ≤ 7) (he : e < 2) (hr : zx_R bk (7 * e) n f) (hf : ∀ i, i < n → f i < 16) (K : post (nI (zp_mx f n + 1))) : wpX_countBlocks post (nI n, bk, re, pa, wa, pd, ba) (nI e) :=
  ⟨n + 1, zx_cnt4 hn he hr hf K (n + 1) 0 (by omega) (by omega)⟩
def zp_sz (f : Nat → Nat) (b : Nat) : Nat → Nat
  | 0 => 0
  | i + 1 => if f i = b then zp_sz f b i + 1 else zp_sz f b i
theorem zp_sz_s (f : Nat → Nat) (b i : Nat) : zp_sz f b (i + 1) = if f i = b then zp_sz f b i + 1 else zp_sz f b i := rfl
theorem zp_sz_le (f : Nat → Nat) (b : Nat) : ∀ i, zp_sz f b i ≤ i := by
  intro i
  induction i with
  | zero => exact Nat.le_refl 0
  | succ i ih => rw [zp_sz_s]; split <;> omega
theorem zx_siz5 {post : Int32 → Prop} {bk : Nat → Int32} {f : Nat → Nat} {b : Nat} (hn : n ≤ 7) (he : e < 2) (hr : zx_R bk (7 * e) n f) (hf : ∀ i, i < n → f i < 16) (hb : b < 16) (K : post (nI (zp_sz f b n))) :
    ∀ (N i : Nat), i ≤ n → n - i < N → wX_sizeOf_5 post (nI e) (nI b) (nI n) bk re pa wa pd ba N (nI (zp_sz f b i)) (nI i) := by
  intro N
  induction N with
  | zero => intro i _ hN; omega
  | succ N ih =>
    intro i hi hN
    refine pk_le n i (fun z => ?_) (fun z => ?_)
    · have e1 : i = n := by omega
      subst e1
      exact K
    · have hfi := hf i z
      have h1 := ih (i + 1) (by omega) (by omega)
      rw [zp_sz_s] at h1
      rw [zb_ix, nI_clamp (by omega : 7 * e + i < 2 ^ 31), hr i z]
      refine ⟨vp_in_nI (by omega) (by omega), pk_eq (f i) b (fun q y e2 x e3 => ?_) (fun q x e3 => ?_)⟩
      · rw [e2, e3, nI_1, nI_1]
        rw [if_pos q] at h1
        exact h1
      · rw [e3, nI_1]
        rw [if_neg q] at h1
        exact h1
theorem zx_siz {post : Int32 → Prop} {bk : Nat → Int32} {f : Nat → Nat} {b : Nat} (hn : n ≤ 7) (he : e < 2) (hr : zx_R bk (7 * e) n f) (hf : ∀ i, i < n → f i < 16) (hb : b < 16) (K : post (nI (zp_sz f b n))) : wpX_sizeOf post (nI n, bk, re, pa, wa, pd, ba) (nI e) (nI b) :=
  ⟨n + 1, zx_siz5 hn he hr hf hb K (n + 1) 0 (by omega) (by omega)⟩
theorem zx_cod9 {post : Int32 → Prop} {bk : Nat → Int32} {f : Nat → Nat} (hn : n ≤ 7) (he : e < 2) (hr : zx_R bk (7 * e) n f) (K : post (nI (zp_en f n))) :
    ∀ (i N v : Nat), i ≤ n → i < N → v * 8 ^ i + zp_en f i = zp_en f n → wX_codeOf_9 post (nI e) (nI n) bk re pa wa pd ba N (nI v) (zb_d i) := by
  intro i
  induction i with
  | zero =>
    intro N v _ hN hv
    obtain ⟨M, rfl⟩ : ∃ M, N = M + 1 := ⟨N - 1, by omega⟩
    have ev : v = zp_en f n := by
      rw [← hv]
      show v = v * 8 ^ 0 + 0
      rw [Nat.pow_zero, Nat.mul_one, Nat.add_zero]
    subst ev
    exact br_t zb_d_0 K
  | succ i ih =>
    intro N v hi hN hv
    obtain ⟨M, rfl⟩ : ∃ M, N = M + 1 := ⟨N - 1, by omega⟩
    refine br_f (nI_pos (n := i) (by omega)) ?_
    show vp_in (7 * nI e + nI i) 21 ∧ _
    rw [show zb_d (i + 1) = nI i from rfl, zb_ix, nI_clamp (by omega : 7 * e + i < 2 ^ 31), hr i (by omega)]
    refine ⟨vp_in_nI (by omega) (by omega), fun y e2 x e3 => ?_⟩
    rw [e2, e3, zb_8m, nI_add, show nI i + (-1) = zb_d i from zb_d_s i]
    refine ih M _ (by omega) (by omega) ?_
    rw [← hv, Nat.pow_succ]
    show (8 * v + f i) * 8 ^ i + zp_en f i = v * (8 ^ i * 8) + (zp_en f i + f i * 8 ^ i)
    rw [Nat.add_mul, Nat.mul_comm (8 ^ i) 8, ← Nat.mul_assoc, Nat.mul_comm v 8]
    omega
theorem zx_cod {post : Int32 → Prop} {bk : Nat → Int32} {f : Nat → Nat} (h1 : 1 ≤ n) (hn : n ≤ 7) (he : e < 2) (hr : zx_R bk (7 * e) n f) (K : post (nI (zp_en f n))) : wpX_codeOf post (nI n, bk, re, pa, wa, pd, ba) (nI e) := by
  refine nm_r (zb_d_1 h1) ⟨n + 1, ?_⟩
  refine zx_cod9 hn he hr K n (n + 1) 0 (by omega) (by omega) ?_
  rw [Nat.zero_mul, Nat.zero_add]
end
end
section
section
variable {n e : Nat} {re pa wa pd ba : Nat → Int32}
/-! put -/
theorem zx_put84 {post : Int32 → SX → Prop} {bk0 : Nat → Int32} {c : Nat} {x3 : Int32} (hn : n ≤ 7) (he : e < 2) (hc : c < 2 ^ 31)
    (K : ∀ bk' : Nat → Int32, zx_R bk' (7 * e) n (zp_dg c) → (∀ j, (j < 7 * e ∨ 7 * e + n ≤ j) → bk' j = bk0 j) → post x3 (nI n, bk', re, pa, wa, pd, ba)) :
    ∀ (N i : Nat) (bk : Nat → Int32), i ≤ n → n - i < N → zx_R bk (7 * e) i (zp_dg c) → (∀ j, (j < 7 * e ∨ 7 * e + n ≤ j) → bk j = bk0 j) → wX_put_84 post (nI e) (nI c) x3 (nI n) N (nI i) bk re pa wa pd ba := by
  intro N
  induction N with
  | zero => intro i bk _ hN; omega
  | succ N ih =>
    intro i bk hi hN R T
    refine pk_le n i (fun z => ?_) (fun z => ?_)
    · have e1 : i = n := by omega
      subst e1
      exact K bk R T
    · have hd := zp_dg_lt c i
      rw [zb_ix, nI_clamp (by omega : 7 * e + i < 2 ^ 31), zb_sh hc (by omega), zb_nb (by omega)]
      refine ⟨vp_in_nI (by omega) (by omega), fun b2 e2 x e3 => ?_⟩
      rw [e3, nI_1]
      refine ih (i + 1) b2 (by omega) (by omega) ?_ ?_
      · intro j hj
        rcases Nat.lt_or_ge j i with w | w
        · rw [e2, pk_un (by omega)]; exact R j w
        · have ej : j = i := by omega
          rw [ej, e2, pk_us]
      · intro j hj
        rw [e2, pk_un (by omega)]; exact T j hj
theorem zx_put32 {post : Int32 → SX → Prop} {bk : Nat → Int32} {c : Nat} {x1 : Int32} (hn : n ≤ 7) (hc : c < 2 ^ 31)
    (K1 : zp_rg n (zp_dg c) → ∃ N, wX_put_84 post x1 (nI c) (nI (zp_bl (zp_dg c) n)) (nI n) N 0 bk re pa wa pd ba) (K2 : ¬ zp_rg n (zp_dg c) → post (-1000000) (nI n, bk, re, pa, wa, pd, ba)) :
    ∀ (N i : Nat), i ≤ n → n - i < N → zp_rg i (zp_dg c) → wX_put_32 post x1 (nI c) (nI n) bk re pa wa pd ba N (nI (zp_bl (zp_dg c) i)) (nI i) := by
  intro N
  induction N with
  | zero => intro i _ hN; omega
  | succ N ih =>
    intro i hi hN R
    refine pk_le n i (fun z => ?_) (fun z => ?_)
    · have e1 : i = n := by omega
      subst e1
      exact K1 R
    · have hd := zp_dg_lt c i
      have hb := zp_bl_le (zp_dg c) i
      have hs : zp_dg c i ≤ zp_bl (zp_dg c) i → zp_rg (i + 1) (zp_dg c) := by
        intro q j hj
        rcases Nat.lt_or_ge j i with w | w
        · exact R j w
        · have ej : j = i := by omega
          rw [ej]; exact q
      refine nm_r (zb_sh hc (by omega)) ?_
      refine pk_le (zp_dg c i) (zp_bl (zp_dg c) i) (fun q => ?_) (fun q => ?_)
      · have h1 := ih (i + 1) (by omega) (by omega) (hs q)
        rw [zp_bl_s] at h1
        refine pk_eq (zp_dg c i) (zp_bl (zp_dg c) i) (fun w y e2 x e3 => ?_) (fun w x e3 => ?_)
        · rw [e2, e3, nI_1, nI_1]
          rw [if_pos w] at h1
          exact h1
        · rw [e3, nI_1]
          rw [if_neg w] at h1
          exact h1
      · exact K2 (fun G => by have := G i z; omega)
/-- put: the table's place of the code, or none -/
theorem zx_put {post : Int32 → SX → Prop} {bk : Nat → Int32} {x y : Int32} (h1 : 1 ≤ n) (hn : n ≤ 7)
    (K1 : ∀ (e k : Nat) (bk' : Nat → Int32), e < 2 → x = nI e → k < zt_N n → y = nI (zt_c n k) → zx_R bk' (7 * e) n (zp_dg (zt_c n k)) → (∀ j, (j < 7 * e ∨ 7 * e + n ≤ j) → bk' j = bk j) → post (nI (zt_n n k)) (nI n, bk', re, pa, wa, pd, ba))
    (K2 : (∀ e, e < 2 → x = nI e → ∀ k, k < zt_N n → y ≠ nI (zt_c n k)) → post (-1000000) (nI n, bk, re, pa, wa, pd, ba)) : wpX_put post (nI n, bk, re, pa, wa, pd, ba) x y := by
  unfold wpX_put
  try dsimp only
  refine zx_badE (fun h => ?_) (fun e he ex => ?_)
  · refine br_f zb_10 (K2 (fun e he ex => ?_))
    exfalso
    subst ex
    rcases h with h | ⟨_, h⟩
    · exact nI_pos (by omega) h
    · exact h (zb_e1 he)
  · refine br_t rfl ?_
    by_cases hy : y < 0
    · refine br_t hy (K2 (fun _ _ _ k hk ey => ?_))
      rw [ey] at hy
      exact nI_pos (by have := zt_c21 n k; omega) hy
    · refine br_f hy ?_
      obtain ⟨c, hc, rfl⟩ := nI_of hy
      have h8 := zb_8n hn
      rw [zb_sl (by omega)]
      refine pk_lt c (8 ^ n) (fun q => ?_) (fun q => ?_)
      · subst ex
        refine ⟨n + 1, zx_put32 hn hc (fun G => ?_) (fun G => ?_) (n + 1) 0 (by omega) (by omega) (zp_rg0 _)⟩
        · obtain ⟨k, hk, d, p, m⟩ := zp_fin (f := zp_dg c) h1 hn G (fun _ _ _ _ => Iff.rfl)
          have ec : c = zt_c n k := zp_ext q (zt_lt h1 hn hk).1 d
          rw [← m]
          refine ⟨n + 1, zx_put84 (bk0 := bk) hn he hc (fun bk' R T => ?_) (n + 1) 0 bk (by omega) (by omega) (fun j hj => absurd hj (Nat.not_lt_zero j)) (fun _ _ => rfl)⟩
          rw [ec] at R
          exact K1 e k bk' he rfl hk (by rw [← ec]) R T
        · refine K2 (fun _ _ _ k hk ey => G ?_)
          have ec : c = zt_c n k := (nI_eq hc (by have := zt_c21 n k; omega)).mp ey
          rw [ec]
          exact (zt_lt h1 hn hk).2
      · refine K2 (fun _ _ _ k hk ey => ?_)
        have ec : c = zt_c n k := (nI_eq hc (by have := zt_c21 n k; omega)).mp ey
        have := (zt_lt h1 hn hk).1
        omega
/-! merge, move, turn: to tidy -/
theorem zx_merge {post : Int32 → SX → Prop} {bk : Nat → Int32} {f : Nat → Nat} {i j : Nat} (h1 : 1 ≤ n) (hn : n ≤ 7) (he : e < 2) (hi : i < n) (hj : j < n) (hr : zx_R bk (7 * e) n f) (hf : ∀ i, i < n → f i < 16)
    (K : ∀ (k : Nat) (bk' re' : Nat → Int32), k < zt_N n → zt_p n k = zp_tg n (fun x => if f x = f j then f i else f x) → zx_R bk' (7 * e) n (zp_dg (zt_c n k)) → (∀ j, (j < 7 * e ∨ 7 * e + n ≤ j) → bk' j = bk j) → post (nI (zt_n n k)) (nI n, bk', re', pa, wa, pd, ba)) : wpX_merge post (nI n, bk, re, pa, wa, pd, ba) (nI e) (nI i) (nI j) := by
  unfold wpX_merge
  try dsimp only
  refine zx_bE0 he ?_
  refine br_t rfl ?_
  refine zx_bP0 hn hi ?_
  refine br_t rfl ?_
  refine zx_bP0 hn hj ?_
  refine br_t rfl ?_
  refine zx_at hn he hi hr ?_
  refine zx_at hn he hj hr ?_
  refine zx_unite hn he hr hf (hf i hi) (hf j hj) (fun bk' R T => ?_)
  refine zx_tidy h1 hn he R (fun x hx => ?_) (fun k bk2 re2 hk p R2 T2 => ?_)
  · split
    · exact hf i hi
    · exact hf x hx
  · exact K k bk2 re2 hk p R2 (fun x hx => (T2 x hx).trans (T x hx))
theorem zx_move53 {post : Int32 → SX → Prop} {bk : Nat → Int32} {f : Nat → Nat} {i v : Nat} (h1 : 1 ≤ n) (hn : n ≤ 7) (he : e < 2) (hi : i < n) (hv : v < 16) (hr : zx_R bk (7 * e) n f) (hf : ∀ i, i < n → f i < 16)
    (K : ∀ (k : Nat) (bk' re' : Nat → Int32), k < zt_N n → zt_p n k = zp_tg n (zp_st f i v) → zx_R bk' (7 * e) n (zp_dg (zt_c n k)) → (∀ j, (j < 7 * e ∨ 7 * e + n ≤ j) → bk' j = bk j) → post (nI (zt_n n k)) (nI n, bk', re', pa, wa, pd, ba)) : wX_move_53 post (nI e) (nI v) (7 * nI e + nI i) (nI n) bk re pa wa pd ba := by
  unfold wX_move_53
  rw [zb_ix, nI_clamp (by omega : 7 * e + i < 2 ^ 31), zb_nb (by omega)]
  refine ⟨vp_in_nI (by omega) (by omega), fun b2 e2 => ?_⟩
  refine zx_tidy (f := zp_st f i v) h1 hn he ?_ ?_ (fun k bk2 re2 hk p R2 T2 => ?_)
  · intro j hj
    by_cases q : j = i
    · rw [q, e2, pk_us, zp_st_s]
    · rw [e2, pk_un (by omega), zp_st_n q]; exact hr j hj
  · intro j hj
    by_cases q : j = i
    · rw [q, zp_st_s]; exact hv
    · rw [zp_st_n q]; exact hf j hj
  · refine K k bk2 re2 hk p R2 (fun x hx => ?_)
    rw [T2 x hx, e2, pk_un (by omega)]
theorem zx_move {post : Int32 → SX → Prop} {bk : Nat → Int32} {f : Nat → Nat} {i j : Nat} (h1 : 1 ≤ n) (hn : n ≤ 7) (he : e < 2) (hi : i < n) (hj : j < n) (hr : zx_R bk (7 * e) n f) (hf : ∀ i, i < n → f i < 16)
    (K : ∀ (k : Nat) (bk' re' : Nat → Int32), k < zt_N n → zt_p n k = zp_tg n (zp_st f i (if i = j then 7 else f j)) → zx_R bk' (7 * e) n (zp_dg (zt_c n k)) → (∀ j, (j < 7 * e ∨ 7 * e + n ≤ j) → bk' j = bk j) → post (nI (zt_n n k)) (nI n, bk', re', pa, wa, pd, ba)) : wpX_move post (nI n, bk, re, pa, wa, pd, ba) (nI e) (nI i) (nI j) := by
  unfold wpX_move
  try dsimp only
  refine zx_bE0 he ?_
  refine br_t rfl ?_
  refine zx_bP0 hn hi ?_
  refine br_t rfl ?_
  refine zx_bP0 hn hj ?_
  refine br_t rfl ?_
  refine pk_eq i j (fun q => ?_) (fun q => ?_)
  · rw [if_pos q] at K
    exact zx_move53 (v := 7) h1 hn he hi (by omega) hr hf K
  · rw [if_neg q] at K
    refine zx_at hn he hj hr ?_
    exact zx_move53 h1 hn he hi (hf j hj) hr hf K
/-! turn -/
theorem zx_turn35 {post : Int32 → SX → Prop} {bk0 : Nat → Int32} {f : Nat → Nat} {l : Nat} (h1 : 1 ≤ n) (hn : n ≤ 7) (he : e < 2) (hf : ∀ i, i < n → f i < 16) (hl : l < 16)
    (K : ∀ (k : Nat) (bk' re' : Nat → Int32), k < zt_N n → zt_p n k = zp_tg n (fun x => if x = 0 then l else f (x - 1)) → zx_R bk' (7 * e) n (zp_dg (zt_c n k)) → (∀ j, (j < 7 * e ∨ 7 * e + n ≤ j) → bk' j = bk0 j) → post (nI (zt_n n k)) (nI n, bk', re', pa, wa, pd, ba)) :
    ∀ (i N : Nat) (bk : Nat → Int32), i < n → i < N → (∀ j, j ≤ i → bk (7 * e + j) = nI (f j)) → (∀ j, i < j → j < n → bk (7 * e + j) = nI (f (j - 1))) → (∀ j, (j < 7 * e ∨ 7 * e + n ≤ j) → bk j = bk0 j) → wX_turn_35 post (nI e) (nI l) (nI n) N (nI i) bk re pa wa pd ba := by
  intro i
  induction i with
  | zero =>
    intro N bk _ hN A B T
    obtain ⟨M, rfl⟩ : ∃ M, N = M + 1 := ⟨N - 1, by omega⟩
    refine br_t (Int32.le_refl 0) ?_
    rw [zb_7m, nI_clamp (by omega : 7 * e < 2 ^ 31), zb_n1 (by omega)]
    refine ⟨vp_in_nI (by omega) (by omega), fun b2 e2 => ?_⟩
    refine zx_tidy (f := fun x => if x = 0 then l else f (x - 1)) h1 hn he ?_ ?_ (fun k bk2 re2 hk p R2 T2 => ?_)
    · intro j hj
      by_cases q : j = 0
      · rw [q, e2]
        exact pk_us
      · rw [e2, pk_un (by omega), B j (by omega) hj]
        show nI (f (j - 1)) = nI (if j = 0 then l else f (j - 1))
        rw [if_neg q]
    · intro j hj
      split
      · exact hl
      · exact hf _ (by omega)
    · refine K k bk2 re2 hk p R2 (fun x hx => ?_)
      rw [T2 x hx, e2, pk_un (by omega)]
      exact T x hx
  | succ i ih =>
    intro N bk hi hN A B T
    obtain ⟨M, rfl⟩ : ∃ M, N = M + 1 := ⟨N - 1, by omega⟩
    refine br_f (nI_nle (by omega) (by omega)) ?_
    have hfi := hf i (by omega)
    rw [zb_ix, zb_s1 (by omega), nI_clamp (by omega : 7 * e + (i + 1) - 1 < 2 ^ 31), nI_clamp (by omega : 7 * e + (i + 1) < 2 ^ 31), show 7 * e + (i + 1) - 1 = 7 * e + i by omega, A i (by omega), zb_n1 (by omega), pk_m1]
    refine ⟨vp_in_nI (by omega) (by omega), vp_in_nI (by omega) (by omega), fun b2 e2 x e3 => ?_⟩
    rw [e3]
    refine ih M b2 (by omega) (by omega) ?_ ?_ ?_
    · intro j hj
      rw [e2, pk_un (by omega)]; exact A j (by omega)
    · intro j hj hj2
      by_cases q : j = i + 1
      · rw [q, e2, pk_us]; rfl
      · rw [e2, pk_un (by omega)]; exact B j (by omega) hj2
    · intro j hj
      rw [e2, pk_un (by omega)]; exact T j hj
theorem zx_turn {post : Int32 → SX → Prop} {bk : Nat → Int32} {f : Nat → Nat} (h1 : 1 ≤ n) (hn : n ≤ 7) (he : e < 2) (hr : zx_R bk (7 * e) n f) (hf : ∀ i, i < n → f i < 16)
    (K : ∀ (k : Nat) (bk' re' : Nat → Int32), k < zt_N n → zt_p n k = zp_tg n (fun x => if x = 0 then f (n - 1) else f (x - 1)) → zx_R bk' (7 * e) n (zp_dg (zt_c n k)) → (∀ j, (j < 7 * e ∨ 7 * e + n ≤ j) → bk' j = bk j) → post (nI (zt_n n k)) (nI n, bk', re', pa, wa, pd, ba)) : wpX_turn post (nI n, bk, re, pa, wa, pd, ba) (nI e) := by
  unfold wpX_turn
  try dsimp only
  refine zx_bE0 he ?_
  refine br_t rfl ?_
  show vp_in (7 * nI e + nI n - 1) 21 ∧ _
  rw [zb_ix, zb_s1 (by omega), zb_s1 h1, nI_clamp (by omega : 7 * e + n - 1 < 2 ^ 31), show 7 * e + n - 1 = 7 * e + (n - 1) by omega, hr (n - 1) (by omega)]
  refine ⟨vp_in_nI (by omega) (by omega), nm_e (nm_e ⟨n, ?_⟩)⟩
  exact zx_turn35 (bk0 := bk) h1 hn he hf (hf _ (by omega)) K (n - 1) n bk (by omega) (by omega) (fun j hj => hr j (by omega)) (fun j h2 h3 => by omega) (fun _ _ => rfl)
end
end
section
section
variable {n : Nat} {re pa wa pd ba : Nat → Int32}
/-! meet -/
theorem zx_meet98 {post : Int32 → SX → Prop} {bk0 : Nat → Int32} {h : Nat → Nat} {x1 : Int32} (hn : n ≤ 7) (hh : ∀ i, i < n → h i < 128)
    (K : ∀ bk' : Nat → Int32, zx_R bk' 0 n h → (∀ j, n ≤ j → bk' j = bk0 j) → post x1 (nI n, bk', re, pa, wa, pd, ba)) :
    ∀ (N i : Nat) (bk : Nat → Int32), i ≤ n → n - i < N → zx_R bk 0 i h → zx_R bk 14 n h → (∀ j, n ≤ j → bk j = bk0 j) → wX_meet_98 post x1 (nI n) N (nI i) bk re pa wa pd ba := by
  intro N
  induction N with
  | zero => intro i bk _ hN; omega
  | succ N ih =>
    intro i bk hi hN R Q T
    refine pk_le n i (fun z => ?_) (fun z => ?_)
    · have e1 : i = n := by omega
      subst e1
      exact K bk R T
    · rw [zb_14, nI_clamp (by omega : 14 + i < 2 ^ 31), nI_clamp (by omega : i < 2 ^ 31), Q i z, zb_n1 (hh i z)]
      refine ⟨vp_in_nI (by omega) (by omega), vp_in_nI (by omega) (by omega), fun b2 e2 x e3 => ?_⟩
      rw [e3, nI_1]
      refine ih (i + 1) b2 (by omega) (by omega) ?_ ?_ ?_
      · intro j hj
        rcases Nat.lt_or_ge j i with w | w
        · rw [e2, pk_un (by omega)]; exact R j w
        · have ej : j = i := by omega
          rw [ej, e2, Nat.zero_add, pk_us]
      · intro j hj
        rw [e2, pk_un (by omega)]; exact Q j hj
      · intro j hj
        rw [e2, pk_un (by omega)]; exact T j hj
theorem zx_meet14 {post : Int32 → SX → Prop} {J : Int32 → Int32 → (Nat → Int32) → (Nat → Int32) → (Nat → Int32) → (Nat → Int32) → (Nat → Int32) → (Nat → Int32) → Prop} {bk : Nat → Int32} {f0 f1 h : Nat → Nat} {i m : Nat} (hn : n ≤ 7) (hi : i < n) (R0 : zx_R bk (7 * 0) n f0) (R1 : zx_R bk (7 * 1) n f1) (H0 : ∀ i, i < n → f0 i < 16) (H1 : ∀ i, i < n → f1 i < 16) (hm : m < 128) (hq : ∀ a, a < i → bk (14 + a) = nI (h a)) (hh : ∀ a, a < i → h a < 128)
    (Kn : (∀ a, a < i → ¬ (f0 a = f0 i ∧ f1 a = f1 i)) → J (nI (m + 1)) (nI (i + 1)) (upd bk (14 + i) (nI m)) re pa wa pd ba)
    (Ko : ∀ a, a < i → f0 a = f0 i → f1 a = f1 i → J (nI m) (nI (i + 1)) (upd bk (14 + i) (nI (h a))) re pa wa pd ba) :
    ∀ (N t : Nat), t ≤ i → i - t < N → (∀ a, a < t → ¬ (f0 a = f0 i ∧ f1 a = f1 i)) → wX_meet_14 post J (nI m) (nI i) (nI n) bk re pa wa pd ba N (nI t) := by
  intro N
  induction N with
  | zero => intro t _ hN; omega
  | succ N ih =>
    intro t ht hN A
    have h0t := H0 t (by omega)
    have h0i := H0 i hi
    have h1t := H1 t (by omega)
    have h1i := H1 i hi
    have nx : ¬ (f0 t = f0 i ∧ f1 t = f1 i) → wX_meet_14 post J (nI m) (nI i) (nI n) bk re pa wa pd ba N (nI (t + 1)) := by
      intro q
      have hti : t ≠ i := fun z => q (by rw [z]; exact ⟨rfl, rfl⟩)
      refine ih (t + 1) (by omega) (by omega) (fun a ha => ?_)
      rcases Nat.lt_or_ge a t with w | w
      · exact A a w
      · have ea : a = t := by omega
        rw [ea]; exact q
    rw [wX_meet_14]
    refine zx_at (e := 0) hn (by omega) (by omega : t < n) R0 ?_
    refine zx_at (e := 0) hn (by omega) hi R0 ?_
    refine pk_eq (f0 t) (f0 i) (fun q => ?_) (fun q x e3 => ?_)
    · refine zx_at (e := 1) hn (by omega) (by omega : t < n) R1 ?_
      refine zx_at (e := 1) hn (by omega) hi R1 ?_
      refine pk_eq (f1 t) (f1 i) (fun w => ?_) (fun w x e3 => ?_)
      · refine pk_eq t i (fun v => ?_) (fun v => ?_)
        · subst v
          rw [zb_14, nI_clamp (by omega : 14 + t < 2 ^ 31), zb_nb hm]
          refine ⟨vp_in_nI (by omega) (by omega), fun b2 e2 x e3 y e4 => ?_⟩
          rw [e2, e3, e4, nI_1, nI_1]
          exact Kn A
        · have hti : t < i := by omega
          rw [zb_14, zb_14, nI_clamp (by omega : 14 + t < 2 ^ 31), nI_clamp (by omega : 14 + i < 2 ^ 31), hq t hti, zb_n1 (hh t hti)]
          refine ⟨vp_in_nI (by omega) (by omega), vp_in_nI (by omega) (by omega), fun b2 e2 x e3 => ?_⟩
          rw [e2, e3, nI_1]
          exact Ko t hti q w
      · rw [e3, nI_1]
        exact nx (fun z => w z.2)
    · rw [e3, nI_1]
      exact nx (fun z => q z.1)
theorem zx_meet4 {post : Int32 → SX → Prop} {bk0 : Nat → Int32} {f0 f1 : Nat → Nat} (h1 : 1 ≤ n) (hn : n ≤ 7) (R0 : zx_R bk0 (7 * 0) n f0) (R1 : zx_R bk0 (7 * 1) n f1) (H0 : ∀ i, i < n → f0 i < 8) (H1 : ∀ i, i < n → f1 i < 8)
    (K : ∀ (k : Nat) (bk' : Nat → Int32), k < zt_N n → zt_p n k = zp_tg n (fun x => 8 * f0 x + f1 x) → zx_R bk' (7 * 0) n (zp_dg (zt_c n k)) → zx_R bk' (7 * 1) n f1 → post (nI (zt_n n k)) (nI n, bk', re, pa, wa, pd, ba)) :
    ∀ (N i : Nat) (bk : Nat → Int32) (h : Nat → Nat), i ≤ n → n - i < N → zp_rg i h → zp_pt i h (fun x => 8 * f0 x + f1 x) → zx_R bk 14 i h → (∀ j, j < 14 → bk j = bk0 j) → wX_meet_4 post (nI n) N (nI (zp_bl h i)) (nI i) bk re pa wa pd ba := by
  intro N
  induction N with
  | zero => intro i bk h _ hN; omega
  | succ N ih =>
    intro i bk h hi hN G P Q T
    have r0 : zx_R bk (7 * 0) n f0 := zx_R_a (fun j hj => T _ (by omega)) R0
    have r1 : zx_R bk (7 * 1) n f1 := zx_R_a (fun j hj => T _ (by omega)) R1
    have hb := zp_bl_le h i
    have hh : ∀ a, a < i → h a < 128 := fun a ha => by have := (zp_rg_lt (by omega) G a ha).2; omega
    refine pk_le n i (fun z => ?_) (fun z => ?_)
    · have e1 : i = n := by omega
      subst e1
      refine ⟨i + 1, zx_meet98 (bk0 := bk) hn hh (fun bk' R T' => ?_) (i + 1) 0 bk (by omega) (by omega) (fun j hj => absurd hj (Nat.not_lt_zero j)) Q (fun _ _ => rfl)⟩
      obtain ⟨k, hk, d, p, c⟩ := zp_fin h1 hn G P
      rw [← c]
      exact K k bk' hk p (zx_R_c d R) (zx_R_a (fun j hj => T' _ (by omega)) r1)
    · have h0i := H0 i z
      have h1i := H1 i z
      refine ⟨i + 1, zx_meet14 (h := h) hn z r0 r1 (fun j hj => by have := H0 j hj; omega) (fun j hj => by have := H1 j hj; omega) (by omega) Q hh (fun A => ?_) (fun a ha q0 q1 => ?_) (i + 1) 0 (by omega) (by omega) (fun a ha => absurd ha (Nat.not_lt_zero a))⟩
      · obtain ⟨g1, g2, g3⟩ := zp_tn G P (fun a ha ea => A a ha (by have := H1 a (by omega); omega))
        rw [← g3]
        refine ih (i + 1) _ _ (by omega) (by omega) g1 g2 ?_ ?_
        · intro j hj
          rcases Nat.lt_or_ge j i with w | w
          · rw [zp_st_n (by omega), pk_un (by omega)]; exact Q j w
          · have ej : j = i := by omega
            rw [ej, zp_st_s, pk_us]
        · intro j hj
          rw [pk_un (by omega)]; exact T j hj
      · obtain ⟨g1, g2, g3⟩ := zp_to G P ha (by show 8 * f0 a + f1 a = 8 * f0 i + f1 i; rw [q0, q1])
        rw [← g3]
        refine ih (i + 1) _ _ (by omega) (by omega) g1 g2 ?_ ?_
        · intro j hj
          rcases Nat.lt_or_ge j i with w | w
          · rw [zp_st_n (by omega), pk_un (by omega)]; exact Q j w
          · have ej : j = i := by omega
            rw [ej, zp_st_s, pk_us]
        · intro j hj
          rw [pk_un (by omega)]; exact T j hj
theorem zx_meet {post : Int32 → SX → Prop} {bk : Nat → Int32} {f0 f1 : Nat → Nat} (h1 : 1 ≤ n) (hn : n ≤ 7) (R0 : zx_R bk (7 * 0) n f0) (R1 : zx_R bk (7 * 1) n f1) (H0 : ∀ i, i < n → f0 i < 8) (H1 : ∀ i, i < n → f1 i < 8)
    (K : ∀ (k : Nat) (bk' : Nat → Int32), k < zt_N n → zt_p n k = zp_tg n (fun x => 8 * f0 x + f1 x) → zx_R bk' (7 * 0) n (zp_dg (zt_c n k)) → zx_R bk' (7 * 1) n f1 → post (nI (zt_n n k)) (nI n, bk', re, pa, wa, pd, ba)) : wpX_meet post (nI n, bk, re, pa, wa, pd, ba) :=
  ⟨n + 1, zx_meet4 (bk0 := bk) h1 hn R0 R1 H0 H1 K (n + 1) 0 bk (fun _ => 0) (by omega) (by omega) (zp_rg0 _) (zp_pt0 _ _) (fun j hj => absurd hj (Nat.not_lt_zero j)) (fun _ _ => rfl)⟩
/-! join -/
def zp_ju (f : Nat → Nat) (i j : Nat) : Nat → Nat := fun x => if f x = f j then f i else f x
def zp_jx (n : Nat) (g f : Nat → Nat) : Nat → Nat → Nat
  | 0 => f
  | k + 1 => if g (k / n) = g (k % n) then zp_ju (zp_jx n g f k) (k / n) (k % n) else zp_jx n g f k
theorem zp_jx_s (n : Nat) (g f : Nat → Nat) (k : Nat) : zp_jx n g f (k + 1) = if g (k / n) = g (k % n) then zp_ju (zp_jx n g f k) (k / n) (k % n) else zp_jx n g f k := rfl
theorem zp_dm {n k : Nat} (h : k < n * n) : k / n < n ∧ k % n < n := by
  have h0 : 0 < n := by
    rcases Nat.eq_zero_or_pos n with z | z
    · subst z; omega
    · exact z
  exact ⟨Nat.div_lt_of_lt_mul h, Nat.mod_lt _ h0⟩
theorem zp_jx_lt {n : Nat} {g f : Nat → Nat} {b : Nat} (hf : ∀ x, x < n → f x < b) : ∀ k, k ≤ n * n → ∀ x, x < n → zp_jx n g f k x < b := by
  intro k
  induction k with
  | zero => intro _ x hx; exact hf x hx
  | succ k ih =>
    intro hk x hx
    have hd := zp_dm (n := n) (k := k) (by omega)
    have ih := ih (by omega)
    rw [zp_jx_s]
    split
    · unfold zp_ju
      split
      · exact ih _ hd.1
      · exact ih x hx
    · exact ih x hx
theorem zx_join2 {post : Int32 → SX → Prop} {f g : Nat → Nat} (h1 : 1 ≤ n) (hn : n ≤ 7) (Hf : ∀ i, i < n → f i < 8) (Hg : ∀ i, i < n → g i < 8)
    (K : ∀ (k : Nat) (bk' re' : Nat → Int32), k < zt_N n → zt_p n k = zp_tg n (zp_jx n g f (n * n)) → zx_R bk' (7 * 0) n (zp_dg (zt_c n k)) → zx_R bk' (7 * 1) n g → post (nI (zt_n n k)) (nI n, bk', re', pa, wa, pd, ba)) :
    ∀ (N k : Nat) (bk : Nat → Int32), k ≤ n * n → n * n - k < N → zx_R bk (7 * 0) n (zp_jx n g f k) → zx_R bk (7 * 1) n g → wX_join_2 post N (nI k) (nI n) bk re pa wa pd ba := by
  have hnn : n * n ≤ 49 := Nat.mul_le_mul hn hn
  intro N
  induction N with
  | zero => intro k bk _ hN; omega
  | succ N ih =>
    intro k bk hk hN R S
    have hl := zp_jx_lt (g := g) Hf k hk
    refine pk_le (n * n) k (fun z => ?_) (fun z => ?_) (hx := pk_mul n n)
    · have e1 : k = n * n := by omega
      subst e1
      refine zx_tidy (e := 0) h1 hn (by omega) R (fun i hi => by have := hl i hi; omega) (fun k bk' re' hk p R' T => ?_)
      exact K k bk' re' hk p R' (zx_R_a (fun j hj => T _ (by omega)) S)
    · have hd := zp_dm z
      have h0 : ¬ nI n = 0 := nI_ne0 h1 (by omega)
      refine And.intro h0 ?_
      refine nm_r (pk_div (by omega) (by omega) (by omega)) ?_
      refine And.intro h0 ?_
      refine nm_r (pk_rem (by omega) (by omega) (by omega)) ?_
      have hi := Hg _ hd.1
      have hj := Hg _ hd.2
      refine zx_at (e := 1) hn (by omega) hd.1 S ?_
      refine zx_at (e := 1) hn (by omega) hd.2 S ?_
      have st := ih (k + 1)
      rw [zp_jx_s] at st
      refine pk_eq (g (k / n)) (g (k % n)) (fun q => ?_) (fun q x e3 => ?_)
      · rw [if_pos q] at st
        refine zx_at (e := 0) hn (by omega) hd.1 R ?_
        refine zx_at (e := 0) hn (by omega) hd.2 R ?_
        refine zx_unite (e := 0) hn (by omega) R (fun i hi => by have := hl i hi; omega) (by have := hl _ hd.1; omega) (by have := hl _ hd.2; omega) (fun bk' R' T => ?_)
        refine nm_r (nI_1 k) ?_
        exact st bk' (by omega) (by omega) R' (zx_R_a (fun j hj => T _ (by omega)) S)
      · rw [if_neg q] at st
        rw [e3, nI_1]
        exact st bk (by omega) (by omega) R S
theorem zx_join {post : Int32 → SX → Prop} {bk : Nat → Int32} {f g : Nat → Nat} (h1 : 1 ≤ n) (hn : n ≤ 7) (R : zx_R bk (7 * 0) n f) (S : zx_R bk (7 * 1) n g) (Hf : ∀ i, i < n → f i < 8) (Hg : ∀ i, i < n → g i < 8)
    (K : ∀ (k : Nat) (bk' re' : Nat → Int32), k < zt_N n → zt_p n k = zp_tg n (zp_jx n g f (n * n)) → zx_R bk' (7 * 0) n (zp_dg (zt_c n k)) → zx_R bk' (7 * 1) n g → post (nI (zt_n n k)) (nI n, bk', re', pa, wa, pd, ba)) : wpX_join post (nI n, bk, re, pa, wa, pd, ba) :=
  ⟨n * n + 1, zx_join2 h1 hn Hf Hg K (n * n + 1) 0 bk (by omega) (by omega) R S⟩
end
end
section
/-! blocks that cross: the turns of two -/
def zp_p1 (v a b : Nat) (s : Nat × Nat) : Nat × Nat := cond ((Nat.beq v a || Nat.beq v b) && !Nat.beq v s.2) (s.1 + 1, v) s
def zp_pc (f : Nat → Nat) (a b : Nat) : Nat → Nat × Nat
  | 0 => (0, 8)
  | i + 1 => zp_p1 (f i) a b (zp_pc f a b i)
def zp_pq (n : Nat) (f : Nat → Nat) (a b : Nat) : Bool := !Nat.beq a b && Nat.ble 4 (zp_pc f a b n).1
def zp_xa (n : Nat) (f : Nat → Nat) : Nat → Bool
  | 0 => false
  | k + 1 => zp_xa n f k || zp_pq n f (k / 7) (k % 7)
theorem zb_bq {a b : Nat} (h : a ≠ b) : Nat.beq a b = false := by
  cases z : Nat.beq a b
  · rfl
  · exact absurd (Nat.eq_of_beq_eq_true z) h
theorem zp_p1_e {v a b : Nat} {s : Nat × Nat} (h : v = s.2) : zp_p1 v a b s = s := by
  unfold zp_p1
  rw [h, Nat.beq_refl, Bool.not_true, Bool.and_false]
  rfl
theorem zp_p1_n {v a b : Nat} {s : Nat × Nat} (h1 : v ≠ a) (h2 : v ≠ b) : zp_p1 v a b s = s := by
  unfold zp_p1
  rw [zb_bq h1, zb_bq h2]
  rfl
theorem zp_p1_t {v a b : Nat} {s : Nat × Nat} (h1 : v = a ∨ v = b) (h : v ≠ s.2) : zp_p1 v a b s = (s.1 + 1, v) := by
  unfold zp_p1
  have e : (Nat.beq v a || Nat.beq v b) = true := by
    rcases h1 with z | z
    · rw [z, Nat.beq_refl]; rfl
    · rw [z, Nat.beq_refl, Bool.or_true]
  rw [e, zb_bq h]
  rfl
theorem zp_pc_s (f : Nat → Nat) (a b i : Nat) : zp_pc f a b (i + 1) = zp_p1 (f i) a b (zp_pc f a b i) := rfl
theorem zp_p1_or (v a b : Nat) (s : Nat × Nat) : zp_p1 v a b s = s ∨ zp_p1 v a b s = (s.1 + 1, v) := by
  unfold zp_p1
  cases ((Nat.beq v a || Nat.beq v b) && !Nat.beq v s.2)
  · exact Or.inl rfl
  · exact Or.inr rfl
theorem zp_pc_b {n : Nat} {f : Nat → Nat} {a b : Nat} (hf : ∀ i, i < n → f i < 8) : ∀ i, i ≤ n → (zp_pc f a b i).1 ≤ i ∧ (zp_pc f a b i).2 ≤ 8 := by
  intro i
  induction i with
  | zero => intro _; exact ⟨Nat.le_refl 0, Nat.le_refl 8⟩
  | succ i ih =>
    intro hi
    have h1 := ih (by omega)
    have h2 := hf i (by omega)
    rw [zp_pc_s]
    rcases zp_p1_or (f i) a b (zp_pc f a b i) with z | z
    · rw [z]; omega
    · rw [z]; constructor
      · show (zp_pc f a b i).1 + 1 ≤ i + 1; omega
      · show f i ≤ 8; omega
theorem zp_pc_c {f g : Nat → Nat} {a b : Nat} : ∀ i, (∀ j, j < i → f j = g j) → zp_pc f a b i = zp_pc g a b i := by
  intro i
  induction i with
  | zero => intro _; rfl
  | succ i ih => intro h; rw [zp_pc_s, zp_pc_s, ih (fun j hj => h j (by omega)), h i (by omega)]
/-- the last label, or none -/
def zb_l (l : Nat) : Int32 := if l = 8 then -1 else nI l
theorem zb_l_n {l : Nat} (h : l < 8) : zb_l l = nI l := if_neg (by omega)
theorem zb_l_eq {v l : Nat} (hv : v < 8) (hl : l ≤ 8) : nI v = zb_l l ↔ v = l := by
  rcases Nat.lt_or_ge l 8 with z | z
  · rw [zb_l_n z, nI_eq (by omega) (by omega)]
  · have e : l = 8 := by omega
    subst e
    constructor
    · intro h
      exfalso
      have h1 : nI v = -1 := h
      have h2 := nI_pos (n := v) (by omega)
      rw [h1] at h2
      exact h2 (by decide)
    · intro h; omega
section
variable {n e : Nat} {re pa wa pd ba : Nat → Int32}
theorem zx_p39 {post : Int32 → Prop} {J : Int32 → Int32 → Int32 → Prop} {x1 x2 x3 x : Int32} {bk : Nat → Int32} {t l i v : Nat} (hv : v < 8) (hl : l ≤ 8) (K1 : v = l → J (nI t) (zb_l l) (nI (i + 1))) (K2 : v ≠ l → J (nI (t + 1)) (zb_l v) (nI (i + 1))) : wX_pairCrosses_39 post J x1 x2 x3 (nI t) (zb_l l) (nI i) (nI v) x bk re pa wa pd ba := by
  by_cases q : v = l
  · refine br_t ((zb_l_eq hv hl).mpr q) (fun y e1 => ?_)
    rw [e1, nI_1]; exact K1 q
  · refine br_f (fun z => q ((zb_l_eq hv hl).mp z)) (fun y e1 z e2 => ?_)
    rw [e1, e2, nI_1, nI_1, ← zb_l_n hv]; exact K2 q
theorem zx_pair9 {post : Int32 → Prop} {bk : Nat → Int32} {f : Nat → Nat} {a b : Nat} (hn : n ≤ 7) (he : e < 2) (hr : zx_R bk (7 * e) n f) (hf : ∀ i, i < n → f i < 8) (ha : a < 8) (hb : b < 8) (K : post (zb_b (zp_pq n f a b))) :
    ∀ (N i : Nat), i ≤ n → n - i < N → wX_pairCrosses_9 post (nI e) (nI a) (nI b) (nI n) bk re pa wa pd ba N (nI (zp_pc f a b i).1) (zb_l (zp_pc f a b i).2) (nI i) := by
  intro N
  induction N with
  | zero => intro i _ hN; omega
  | succ N ih =>
    intro i hi hN
    have hp := zp_pc_b (a := a) (b := b) hf i hi
    refine pk_le n i (fun z => ?_) (fun z => ?_)
    · have e1 : i = n := by omega
      subst e1
      unfold zp_pq at K
      refine pk_eq a b (fun q => ?_) (fun q => ?_)
      · rw [q, Nat.beq_refl] at K; exact K
      · rw [zb_bq q] at K
        refine pk_le (zp_pc f a b i).1 3 (fun w => ?_) (fun w => ?_)
        · have h4 : Nat.ble 4 (zp_pc f a b i).1 = false := by
            cases y : Nat.ble 4 (zp_pc f a b i).1
            · rfl
            · have := Nat.le_of_ble_eq_true y; omega
          rw [h4] at K; exact K
        · rw [Nat.ble_eq_true_of_le (by omega)] at K; exact K
    · have hfi := hf i z
      have st := ih (i + 1) (by omega) (by omega)
      rw [zp_pc_s] at st
      refine zx_at hn he z hr ?_
      refine pk_eq (f i) a (fun q => ?_) (fun q => ?_)
      · refine zx_p39 hfi hp.2 (fun w => ?_) (fun w => ?_)
        · rw [zp_p1_e w] at st; exact st
        · rw [zp_p1_t (Or.inl q) w] at st; exact st
      · refine pk_eq (f i) b (fun r => ?_) (fun r => ?_)
        · refine zx_p39 hfi hp.2 (fun w => ?_) (fun w => ?_)
          · rw [zp_p1_e w] at st; exact st
          · rw [zp_p1_t (Or.inr r) w] at st; exact st
        · intro y e1
          rw [zp_p1_n q r] at st
          rw [e1, nI_1]; exact st
theorem zx_pair {post : Int32 → Prop} {bk : Nat → Int32} {f : Nat → Nat} {a b : Nat} (hn : n ≤ 7) (he : e < 2) (hr : zx_R bk (7 * e) n f) (hf : ∀ i, i < n → f i < 8) (ha : a < 8) (hb : b < 8) (K : post (zb_b (zp_pq n f a b))) : wpX_pairCrosses post (nI n, bk, re, pa, wa, pd, ba) (nI e) (nI a) (nI b) :=
  ⟨n + 1, zx_pair9 hn he hr hf ha hb K (n + 1) 0 (by omega) (by omega)⟩
theorem zp_xa_m {f : Nat → Nat} {k : Nat} : ∀ d, zp_xa n f k = true → zp_xa n f (k + d) = true := by
  intro d
  induction d with
  | zero => intro h; exact h
  | succ d ih =>
    intro h
    show (zp_xa n f (k + d) || zp_pq n f ((k + d) / 7) ((k + d) % 7)) = true
    rw [ih h]; rfl
theorem zb_d7 {k : Nat} (h : k < 2 ^ 31) : nI k / 7 = nI (k / 7) := pk_div (d := 7) h (by decide) (by decide)
theorem zb_r7 {k : Nat} (h : k < 2 ^ 31) : nI k - nI k / 7 * 7 = nI (k % 7) := pk_rem (d := 7) h (by decide) (by decide)
theorem zb_70 : ¬ (7 : Int32) = 0 := by decide
theorem zx_crs4 {post : Int32 → Prop} {bk : Nat → Int32} {f : Nat → Nat} (hn : n ≤ 7) (he : e < 2) (hr : zx_R bk (7 * e) n f) (hf : ∀ i, i < n → f i < 8) (K : post (zb_b (zp_xa n f 49))) :
    ∀ (N k : Nat), k ≤ 49 → 49 - k < N → wX_crossing_4 post (nI e) (nI n) bk re pa wa pd ba N (zb_b (zp_xa n f k)) (nI k) := by
  intro N
  induction N with
  | zero => intro k _ hN; omega
  | succ N ih =>
    intro k hk hN
    refine pk_le 49 k (fun z => ?_) (fun z => ?_)
    · have e1 : k = 49 := by omega
      subst e1
      exact ⟨zb_nar _, K⟩
    · cases q : zp_xa n f k
      · refine br_t zb_bf (And.intro zb_70 (And.intro zb_70 ?_))
        rw [zb_r7 (by omega), zb_d7 (by omega)]
        refine zx_pair hn he hr hf (by omega) (by omega) ?_
        intro y e1
        have st := ih (k + 1) (by omega) (by omega)
        rw [show zp_xa n f (k + 1) = (zp_xa n f k || zp_pq n f (k / 7) (k % 7)) from rfl, q, Bool.false_or] at st
        rw [e1, nI_1]; exact st
      · have h49 := zp_xa_m (f := f) (k := k) (49 - k) q
        rw [show k + (49 - k) = 49 by omega] at h49
        rw [h49] at K
        exact br_f zb_10 ⟨zb_nar true, K⟩
theorem zx_crs {post : Int32 → Prop} {bk : Nat → Int32} {f : Nat → Nat} (hn : n ≤ 7) (he : e < 2) (hr : zx_R bk (7 * e) n f) (hf : ∀ i, i < n → f i < 8) (K : post (zb_b (zp_xa n f 49))) : wpX_crossing post (nI n, bk, re, pa, wa, pd, ba) (nI e) :=
  ⟨50, zx_crs4 hn he hr hf K 50 0 (by omega) (by omega)⟩
end
/-! uncross -/
def zp_uc (n c a b : Nat) : Nat := zp_en (fun j => cond (Nat.beq (zp_dg c j) b) a (zp_dg c j)) n
def zp_r1 (n c k : Nat) : Nat := cond (zp_pq n (zp_dg c) (k / 7) (k % 7)) (zp_uc n c (k / 7) (k % 7)) c
def zp_rk (n c : Nat) : Nat → Nat
  | 0 => c
  | k + 1 => zp_r1 n (zp_rk n c k) k
def zp_ux (n c : Nat) : Nat → Nat
  | 0 => c
  | r + 1 => zp_rk n (zp_ux n c r) 49
theorem zp_uc_d {n c a b : Nat} (ha : a < 8) : ∀ i, i < n → zp_dg (zp_uc n c a b) i = if zp_dg c i = b then a else zp_dg c i := by
  intro i hi
  unfold zp_uc
  rw [zp_dg_en n (fun j _ => ?_) i hi]
  · by_cases q : zp_dg c i = b
    · rw [if_pos q, q, Nat.beq_refl]; rfl
    · rw [if_neg q, zb_bq q]; rfl
  · cases Nat.beq (zp_dg c j) b
    · exact zp_dg_lt c j
    · exact ha
section
variable {n e : Nat} {re pa wa pd ba : Nat → Int32}
theorem zx_unc21 {post : Int32 → SX → Prop} {J : Int32 → Int32 → (Nat → Int32) → (Nat → Int32) → (Nat → Int32) → (Nat → Int32) → (Nat → Int32) → (Nat → Int32) → Prop} {bk0 : Nat → Int32} {c : Nat} {x2 : Int32} (hn : n ≤ 7) (he : e < 2)
    (K : ∀ bk' : Nat → Int32, zx_R bk' (7 * e) n (zp_dg (zp_rk n c 49)) → (∀ j, (j < 7 * e ∨ 7 * e + n ≤ j) → bk' j = bk0 j) → J (x2 + 1) (nI n) bk' re pa wa pd ba) :
    ∀ (N k : Nat) (bk : Nat → Int32), k ≤ 49 → 49 - k < N → zx_R bk (7 * e) n (zp_dg (zp_rk n c k)) → (∀ j, (j < 7 * e ∨ 7 * e + n ≤ j) → bk j = bk0 j) → wX_uncross_21 post J (nI e) x2 N (nI k) (nI n) bk re pa wa pd ba := by
  intro N
  induction N with
  | zero => intro k bk _ hN; omega
  | succ N ih =>
    intro k bk hk hN R T
    refine pk_le 49 k (fun z => ?_) (fun z => ?_)
    · have e1 : k = 49 := by omega
      subst e1
      exact nm_e (K bk R T)
    · refine And.intro zb_70 ?_
      refine nm_r (zb_d7 (by omega)) ?_
      refine And.intro zb_70 ?_
      refine nm_r (zb_r7 (by omega)) ?_
      refine zx_pair hn he R (fun i _ => zp_dg_lt _ i) (by omega) (by omega) ?_
      have st := ih (k + 1)
      rw [show zp_rk n c (k + 1) = zp_r1 n (zp_rk n c k) k from rfl] at st
      unfold zp_r1 at st
      cases q : zp_pq n (zp_dg (zp_rk n c k)) (k / 7) (k % 7)
      · rw [q] at st
        refine br_t zb_bf ?_
        refine nm_r (nI_1 k) ?_
        exact st bk (by omega) (by omega) R T
      · rw [q] at st
        refine br_f zb_10 ?_
        refine zx_unite hn he R (fun i _ => by have := zp_dg_lt (zp_rk n c k) i; omega) (by omega) (by omega) (fun bk' R' T' => ?_)
        refine nm_r (nI_1 k) ?_
        refine st bk' (by omega) (by omega) (zx_R_c (fun j hj => ?_) R') (fun j hj => (T' j hj).trans (T j hj))
        exact (zp_uc_d (by omega) j hj).symm
theorem zx_unc13 {post : Int32 → SX → Prop} {bk0 : Nat → Int32} {c : Nat} (h1 : 1 ≤ n) (hn : n ≤ 7) (he : e < 2)
    (K : ∀ (k : Nat) (bk' re' : Nat → Int32), k < zt_N n → zt_p n k = zp_tg n (zp_dg (zp_ux n c 7)) → zx_R bk' (7 * e) n (zp_dg (zt_c n k)) → (∀ j, (j < 7 * e ∨ 7 * e + n ≤ j) → bk' j = bk0 j) → post (nI (zt_n n k)) (nI n, bk', re', pa, wa, pd, ba)) :
    ∀ (N r : Nat) (bk : Nat → Int32), r ≤ 7 → 7 - r < N → zx_R bk (7 * e) n (zp_dg (zp_ux n c r)) → (∀ j, (j < 7 * e ∨ 7 * e + n ≤ j) → bk j = bk0 j) → wX_uncross_13 post (nI e) N (nI r) (nI n) bk re pa wa pd ba := by
  intro N
  induction N with
  | zero => intro r bk _ hN; omega
  | succ N ih =>
    intro r bk hk hN R T
    refine pk_le 7 r (fun z => ?_) (fun z => ?_)
    · have e1 : r = 7 := by omega
      subst e1
      refine zx_tidy h1 hn he R (fun i _ => by have := zp_dg_lt (zp_ux n c 7) i; omega) (fun k bk' re' hk p R' T' => ?_)
      exact K k bk' re' hk p R' (fun j hj => (T' j hj).trans (T j hj))
    · refine ⟨50, zx_unc21 (bk0 := bk0) (c := zp_ux n c r) hn he (fun bk' R' T' => ?_) 50 0 bk (by omega) (by omega) R T⟩
      rw [nI_1]
      exact ih (r + 1) bk' (by omega) (by omega) R' T'
theorem zx_unc {post : Int32 → SX → Prop} {bk : Nat → Int32} {c : Nat} (h1 : 1 ≤ n) (hn : n ≤ 7) (he : e < 2) (R : zx_R bk (7 * e) n (zp_dg c))
    (K : ∀ (k : Nat) (bk' re' : Nat → Int32), k < zt_N n → zt_p n k = zp_tg n (zp_dg (zp_ux n c 7)) → zx_R bk' (7 * e) n (zp_dg (zt_c n k)) → (∀ j, (j < 7 * e ∨ 7 * e + n ≤ j) → bk' j = bk j) → post (nI (zt_n n k)) (nI n, bk', re', pa, wa, pd, ba)) : wpX_uncross post (nI n, bk, re, pa, wa, pd, ba) (nI e) := by
  unfold wpX_uncross
  try dsimp only
  refine zx_bE0 he ?_
  exact br_t rfl ⟨8, zx_unc13 (bk0 := bk) h1 hn he K 8 0 bk (by omega) (by omega) R (fun _ _ => rfl)⟩
end
end
section
/-! the point before in the block; going round the gaps -/
def zp_ls (f : Nat → Nat) (n i : Nat) : Nat → Nat
  | 0 => i
  | t + 1 => cond (Nat.beq (f ((i + t + 1) % n)) (f i)) ((i + t + 1) % n) (zp_ls f n i t)
def zp_gp (f : Nat → Nat) (n s : Nat) : Nat → Nat
  | 0 => s
  | k + 1 => zp_ls f n ((zp_gp f n s k + 1) % n) (n - 1)
def zp_sd (n d g v : Nat) : Nat := zp_en (fun j => cond (Nat.beq j g) v (zp_dg d j)) n
def zp_gd (f : Nat → Nat) (n s v d : Nat) : Nat → Nat
  | 0 => d
  | k + 1 => zp_sd n (zp_gd f n s v d k) (zp_gp f n s k) v
def zp_cq (f : Nat → Nat) (n : Nat) (i : Nat) (s : Nat × Nat) : Nat × Nat := cond (Nat.beq (zp_dg s.1 i) 7) (zp_gd f n i s.2 s.1 n, s.2 + 1) s
def zp_cp (f : Nat → Nat) (n : Nat) : Nat → Nat × Nat
  | 0 => (zp_en (fun _ => 7) n, 0)
  | i + 1 => zp_cq f n i (zp_cp f n i)
theorem zp_ls_lt {f : Nat → Nat} {n i : Nat} (hi : i < n) : ∀ t, zp_ls f n i t < n := by
  intro t
  induction t with
  | zero => exact hi
  | succ t ih =>
    show cond _ _ _ < n
    cases Nat.beq (f ((i + t + 1) % n)) (f i)
    · exact ih
    · exact Nat.mod_lt _ (by omega)
theorem zp_gp_lt {f : Nat → Nat} {n s : Nat} (hs : s < n) : ∀ k, zp_gp f n s k < n := by
  intro k
  cases k with
  | zero => exact hs
  | succ k => exact zp_ls_lt (Nat.mod_lt _ (by omega)) _
theorem zp_sd_d {n d g v : Nat} (hv : v < 8) : ∀ i, i < n → zp_dg (zp_sd n d g v) i = if i = g then v else zp_dg d i := by
  intro i hi
  unfold zp_sd
  rw [zp_dg_en n (fun j _ => ?_) i hi]
  · by_cases q : i = g
    · rw [if_pos q, q, Nat.beq_refl]; rfl
    · rw [if_neg q, zb_bq q]; rfl
  · cases Nat.beq j g
    · exact zp_dg_lt d j
    · exact hv
theorem zp_mo {n s : Nat} (h1 : 1 ≤ n) (hn : n ≤ 7) : ((s + 1) % n + n - 1) % n = s % n := by
  have h : n = 1 ∨ n = 2 ∨ n = 3 ∨ n = 4 ∨ n = 5 ∨ n = 6 ∨ n = 7 := by omega
  rcases h with h | h | h | h | h | h | h <;> subst h <;> omega
theorem zp_cp_b (f : Nat → Nat) (n : Nat) : ∀ i, (zp_cp f n i).2 ≤ i := by
  intro i
  induction i with
  | zero => exact Nat.le_refl 0
  | succ i ih =>
    show (zp_cq f n i (zp_cp f n i)).2 ≤ i + 1
    unfold zp_cq
    cases Nat.beq (zp_dg (zp_cp f n i).1 i) 7
    · show (zp_cp f n i).2 ≤ i + 1; omega
    · show (zp_cp f n i).2 + 1 ≤ i + 1; omega
section
variable {n e : Nat} {re pa wa pd ba : Nat → Int32}
theorem zx_lst14 {post : Int32 → Prop} {bk : Nat → Int32} {f : Nat → Nat} {i : Nat} (h1 : 1 ≤ n) (hn : n ≤ 7) (he : e < 2) (hi : i < n) (hr : zx_R bk (7 * e) n f) (hf : ∀ i, i < n → f i < 8) :
    ∀ (t N : Nat), t < N → post (nI (zp_ls f n i t)) → wX_lastIn_14 post (nI e) (nI i) (nI n) bk re pa wa pd ba N (nI ((i + t) % n)) := by
  intro t
  induction t with
  | zero =>
    intro N hN K
    obtain ⟨M, rfl⟩ : ∃ M, N = M + 1 := ⟨N - 1, by omega⟩
    rw [wX_lastIn_14, Nat.add_zero, Nat.mod_eq_of_lt hi]
    refine zx_at hn he hi hr ?_
    refine zx_at hn he hi hr ?_
    exact br_t rfl K
  | succ t ih =>
    intro N hN K
    obtain ⟨M, rfl⟩ : ∃ M, N = M + 1 := ⟨N - 1, by omega⟩
    have hm : (i + (t + 1)) % n < n := Nat.mod_lt _ (by omega)
    have ha := hf _ hm
    have hb := hf i hi
    rw [wX_lastIn_14]
    refine zx_at hn he hm hr ?_
    refine zx_at hn he hi hr ?_
    refine pk_eq (f ((i + (t + 1)) % n)) (f i) (fun q => ?_) (fun q => ?_)
    · have e1 : zp_ls f n i (t + 1) = (i + (t + 1)) % n := by
        show cond (Nat.beq (f ((i + (t + 1)) % n)) (f i)) ((i + (t + 1)) % n) (zp_ls f n i t) = _
        rw [q, Nat.beq_refl]; rfl
      rw [e1] at K
      exact K
    · have e1 : zp_ls f n i (t + 1) = zp_ls f n i t := by
        show cond (Nat.beq (f ((i + (t + 1)) % n)) (f i)) ((i + (t + 1)) % n) (zp_ls f n i t) = _
        rw [zb_bq q]; rfl
      rw [e1] at K
      refine And.intro (nI_ne0 h1 (by omega)) ?_
      have e2 : nI ((i + (t + 1)) % n) + nI n - 1 - (nI ((i + (t + 1)) % n) + nI n - 1) / nI n * nI n = nI ((i + t) % n) := by
        rw [nI_add, zb_s1 (by omega), pk_rem (by omega) (by omega) (by omega)]
        exact congrArg nI (zp_mo (s := i + t) h1 hn)
      refine nm_r e2 ?_
      exact ih M (by omega) K
theorem zx_lst {post : Int32 → Prop} {bk : Nat → Int32} {f : Nat → Nat} {i : Nat} (h1 : 1 ≤ n) (hn : n ≤ 7) (he : e < 2) (hi : i < n) (hr : zx_R bk (7 * e) n f) (hf : ∀ i, i < n → f i < 8) (K : post (nI (zp_ls f n i (n - 1)))) : wpX_lastIn post (nI n, bk, re, pa, wa, pd, ba) (nI e) (nI i) := by
  refine And.intro (nI_ne0 h1 (by omega)) ?_
  have e2 : nI i + nI n - 1 - (nI i + nI n - 1) / nI n * nI n = nI ((i + (n - 1)) % n) := by
    rw [nI_add, zb_s1 (by omega), pk_rem (by omega) (by omega) (by omega)]
    rw [show i + n - 1 = i + (n - 1) by omega]
  refine nm_r e2 ?_
  exact ⟨n, zx_lst14 h1 hn he hi hr hf (n - 1) n (by omega) K⟩
theorem zx_gor6 {post : SX → Prop} {bk0 : Nat → Int32} {f : Nat → Nat} {s v d : Nat} (h1 : 1 ≤ n) (hn : n ≤ 7) (he : e < 2) (hs : s < n) (hv : v < 8) (hr : zx_R bk0 (7 * e) n f) (hf : ∀ i, i < n → f i < 8)
    (K : ∀ bk' : Nat → Int32, zx_R bk' 14 n (zp_dg (zp_gd f n s v d n)) → (∀ j, j < 14 → bk' j = bk0 j) → post (nI n, bk', re, pa, wa, pd, ba)) :
    ∀ (N k : Nat) (bk : Nat → Int32), k ≤ n → n - k < N → zx_R bk 14 n (zp_dg (zp_gd f n s v d k)) → (∀ j, j < 14 → bk j = bk0 j) → wX_goRound_6 post (nI e) (nI v) (nI n) N (nI (zp_gp f n s k)) (nI k) bk re pa wa pd ba := by
  intro N
  induction N with
  | zero => intro k bk _ hN; omega
  | succ N ih =>
    intro k bk hk hN R T
    have hg := zp_gp_lt (f := f) hs k
    refine pk_le n k (fun z => ?_) (fun z => ?_)
    · have e1 : k = n := by omega
      subst e1
      exact K bk R T
    · rw [zb_14, nI_clamp (by omega : 14 + zp_gp f n s k < 2 ^ 31), zb_nb (by omega), nI_1 (zp_gp f n s k), pk_rem (by omega) (by omega) (by omega)]
      refine ⟨vp_in_nI (by omega) (by omega), fun b2 e2 => And.intro (nI_ne0 h1 (by omega)) ?_⟩
      have T2 : ∀ j, j < 14 → b2 j = bk0 j := fun j hj => by rw [e2, pk_un (by omega)]; exact T j hj
      refine zx_lst h1 hn he (Nat.mod_lt _ (by omega)) (zx_R_a (fun j hj => T2 _ (by omega)) hr) hf ?_
      refine nm_r (nI_1 k) ?_
      refine ih (k + 1) b2 (by omega) (by omega) ?_ T2
      intro j hj
      rw [show zp_gd f n s v d (k + 1) = zp_sd n (zp_gd f n s v d k) (zp_gp f n s k) v from rfl, zp_sd_d hv j hj]
      by_cases q : j = zp_gp f n s k
      · rw [if_pos q, e2, q, pk_us]
      · rw [if_neg q, e2, pk_un (by omega)]; exact R j hj
theorem zx_gor {post : SX → Prop} {bk : Nat → Int32} {f : Nat → Nat} {s v d : Nat} (h1 : 1 ≤ n) (hn : n ≤ 7) (he : e < 2) (hs : s < n) (hv : v < 8) (hr : zx_R bk (7 * e) n f) (hf : ∀ i, i < n → f i < 8) (hd : zx_R bk 14 n (zp_dg d))
    (K : ∀ bk' : Nat → Int32, zx_R bk' 14 n (zp_dg (zp_gd f n s v d n)) → (∀ j, j < 14 → bk' j = bk j) → post (nI n, bk', re, pa, wa, pd, ba)) : wpX_goRound post (nI n, bk, re, pa, wa, pd, ba) (nI e) (nI s) (nI v) :=
  ⟨n + 1, zx_gor6 (bk0 := bk) h1 hn he hs hv hr hf K (n + 1) 0 bk (by omega) (by omega) hd (fun _ _ => rfl)⟩
theorem zx_cmp100 {post : Int32 → SX → Prop} {bk0 : Nat → Int32} {d : Nat} (h1 : 1 ≤ n) (hn : n ≤ 7) (he : e < 2)
    (K : ∀ (k : Nat) (bk' re' : Nat → Int32), k < zt_N n → zt_p n k = zp_tg n (zp_dg d) → zx_R bk' (7 * e) n (zp_dg (zt_c n k)) → (∀ j, j < 14 → (j < 7 * e ∨ 7 * e + n ≤ j) → bk' j = bk0 j) → post (nI (zt_n n k)) (nI n, bk', re', pa, wa, pd, ba)) :
    ∀ (N i : Nat) (bk : Nat → Int32), i ≤ n → n - i < N → zx_R bk (7 * e) i (zp_dg d) → zx_R bk 14 n (zp_dg d) → (∀ j, j < 14 → (j < 7 * e ∨ 7 * e + n ≤ j) → bk j = bk0 j) → wX_complement_100 post (nI e) (nI n) N (nI i) bk re pa wa pd ba := by
  intro N
  induction N with
  | zero => intro i bk _ hN; omega
  | succ N ih =>
    intro i bk hi hN R Q T
    refine pk_le n i (fun z => ?_) (fun z => ?_)
    · have e1 : i = n := by omega
      subst e1
      refine zx_tidy h1 hn he R (fun j _ => by have := zp_dg_lt d j; omega) (fun k bk' re' hk p R' T' => ?_)
      exact K k bk' re' hk p R' (fun j h14 hj => (T' j hj).trans (T j h14 hj))
    · have hd := zp_dg_lt d i
      rw [zb_14, zb_ix, nI_clamp (by omega : 14 + i < 2 ^ 31), nI_clamp (by omega : 7 * e + i < 2 ^ 31), Q i z, zb_n1 (by omega)]
      refine ⟨vp_in_nI (by omega) (by omega), vp_in_nI (by omega) (by omega), fun b2 e2 x e3 => ?_⟩
      rw [e3, nI_1]
      refine ih (i + 1) b2 (by omega) (by omega) ?_ ?_ ?_
      · intro j hj
        rcases Nat.lt_or_ge j i with w | w
        · rw [e2, pk_un (by omega)]; exact R j w
        · have ej : j = i := by omega
          rw [ej, e2, pk_us]
      · intro j hj
        rw [e2, pk_un (by omega)]; exact Q j hj
      · intro j h14 hj
        rw [e2, pk_un (by omega)]; exact T j h14 hj
theorem zx_cmp56 {post : Int32 → SX → Prop} {bk0 : Nat → Int32} {f : Nat → Nat} (h1 : 1 ≤ n) (hn : n ≤ 7) (he : e < 2) (hr : zx_R bk0 (7 * e) n f) (hf : ∀ i, i < n → f i < 8)
    (K : ∀ (k : Nat) (bk' re' : Nat → Int32), k < zt_N n → zt_p n k = zp_tg n (zp_dg (zp_cp f n n).1) → zx_R bk' (7 * e) n (zp_dg (zt_c n k)) → (∀ j, j < 14 → (j < 7 * e ∨ 7 * e + n ≤ j) → bk' j = bk0 j) → post (nI (zt_n n k)) (nI n, bk', re', pa, wa, pd, ba)) :
    ∀ (N i : Nat) (bk : Nat → Int32), i ≤ n → n - i < N → zx_R bk 14 n (zp_dg (zp_cp f n i).1) → (∀ j, j < 14 → bk j = bk0 j) → wX_complement_56 post (nI e) N (nI (zp_cp f n i).2) (nI i) (nI n) bk re pa wa pd ba := by
  intro N
  induction N with
  | zero => intro i bk _ hN; omega
  | succ N ih =>
    intro i bk hi hN Q T
    have hb := zp_cp_b f n i
    refine pk_le n i (fun z => ?_) (fun z => ?_)
    · have e1 : i = n := by omega
      subst e1
      exact ⟨i + 1, zx_cmp100 (bk0 := bk0) h1 hn he K (i + 1) 0 bk (by omega) (by omega) (fun j hj => absurd hj (Nat.not_lt_zero j)) Q (fun j h _ => T j h)⟩
    · have hd := zp_dg_lt (zp_cp f n i).1 i
      have st := ih (i + 1)
      rw [show zp_cp f n (i + 1) = zp_cq f n i (zp_cp f n i) from rfl] at st
      unfold zp_cq at st
      rw [zb_14, nI_clamp (by omega : 14 + i < 2 ^ 31), Q i z]
      refine ⟨vp_in_nI (by omega) (by omega), pk_eq (zp_dg (zp_cp f n i).1 i) 7 (fun q => ?_) (fun q x e3 => ?_)⟩
      · rw [q] at st
        refine zx_gor h1 hn he z (by omega) (zx_R_a (fun j hj => T _ (by omega)) hr) hf Q (fun bk' R' T' => ?_)
        refine nm_r (nI_1 _) ?_
        refine nm_r (nI_1 i) ?_
        exact st bk' (by omega) (by omega) R' (fun j hj => (T' j hj).trans (T j hj))
      · rw [zb_bq q] at st
        rw [e3, nI_1]
        exact st bk (by omega) (by omega) Q T
theorem zx_cmp26 {post : Int32 → SX → Prop} {bk0 : Nat → Int32} {f : Nat → Nat} (h1 : 1 ≤ n) (hn : n ≤ 7) (he : e < 2) (hr : zx_R bk0 (7 * e) n f) (hf : ∀ i, i < n → f i < 8)
    (K : ∀ (k : Nat) (bk' re' : Nat → Int32), k < zt_N n → zt_p n k = zp_tg n (zp_dg (zp_cp f n n).1) → zx_R bk' (7 * e) n (zp_dg (zt_c n k)) → (∀ j, j < 14 → (j < 7 * e ∨ 7 * e + n ≤ j) → bk' j = bk0 j) → post (nI (zt_n n k)) (nI n, bk', re', pa, wa, pd, ba)) :
    ∀ (N i : Nat) (bk : Nat → Int32), i ≤ n → n - i < N → zx_R bk 14 i (fun _ => 7) → (∀ j, j < 14 → bk j = bk0 j) → wX_complement_26 post (nI e) (nI n) N (nI i) bk re pa wa pd ba := by
  intro N
  induction N with
  | zero => intro i bk _ hN; omega
  | succ N ih =>
    intro i bk hi hN Q T
    refine pk_le n i (fun z => ?_) (fun z => ?_)
    · have e1 : i = n := by omega
      subst e1
      refine ⟨i + 1, zx_cmp56 (bk0 := bk0) h1 hn he hr hf K (i + 1) 0 bk (by omega) (by omega) (zx_R_c (fun j hj => ?_) Q) T⟩
      exact (zp_dg_en (f := fun _ => 7) i (fun _ _ => by decide) j hj).symm
    · rw [zb_14, nI_clamp (by omega : 14 + i < 2 ^ 31), zb_n7]
      refine ⟨vp_in_nI (by omega) (by omega), fun b2 e2 x e3 => ?_⟩
      rw [e3, nI_1]
      refine ih (i + 1) b2 (by omega) (by omega) ?_ ?_
      · intro j hj
        rcases Nat.lt_or_ge j i with w | w
        · rw [e2, pk_un (by omega)]; exact Q j w
        · have ej : j = i := by omega
          rw [ej, e2, pk_us]
      · intro j hj
        rw [e2, pk_un (by omega)]; exact T j hj
theorem zx_cmp {post : Int32 → SX → Prop} {bk : Nat → Int32} {f : Nat → Nat} (h1 : 1 ≤ n) (hn : n ≤ 7) (he : e < 2) (hr : zx_R bk (7 * e) n f) (hf : ∀ i, i < n → f i < 8)
    (K0 : zp_xa n f 49 = true → post (-1000001) (nI n, bk, re, pa, wa, pd, ba))
    (K : zp_xa n f 49 = false → ∀ (k : Nat) (bk' re' : Nat → Int32), k < zt_N n → zt_p n k = zp_tg n (zp_dg (zp_cp f n n).1) → zx_R bk' (7 * e) n (zp_dg (zt_c n k)) → (∀ j, j < 14 → (j < 7 * e ∨ 7 * e + n ≤ j) → bk' j = bk j) → post (nI (zt_n n k)) (nI n, bk', re', pa, wa, pd, ba)) : wpX_complement post (nI n, bk, re, pa, wa, pd, ba) (nI e) := by
  unfold wpX_complement
  try dsimp only
  refine zx_bE0 he ?_
  refine br_t rfl ?_
  refine zx_crs hn he hr hf ?_
  cases q : zp_xa n f 49
  · exact br_t zb_bf ⟨n + 1, zx_cmp26 (bk0 := bk) h1 hn he hr hf (K q) (n + 1) 0 bk (by omega) (by omega) (fun j hj => absurd hj (Nat.not_lt_zero j)) (fun _ _ => rfl)⟩
  · exact br_f zb_10 (K0 q)
end
end
section
/-! numbers of ways, products, balanced rows -/
def zp_wm : Nat → Nat → Nat
  | 0, _ => 1
  | m + 1, k => k * zp_wm m k + zp_wm m (k + 1)
def zp_fa : Nat → Nat
  | 0 => 1
  | k + 1 => zp_fa k * (k + 1)
def zp_cl : Nat → Nat
  | 0 => 1
  | k + 1 => zp_cl k * (4 * (k + 1) - 2) / (k + 2)
def zx_W (wa : Nat → Int32) : Prop := ∀ m k, m + k < 8 → wa (8 * m + k) = nI (zp_wm m k)
def zx_P (pd : Nat → Int32) : Prop := ∀ k, k < 8 → pd k = nI (zp_fa k)
def zx_B (ba : Nat → Int32) : Prop := ∀ k, k < 8 → ba k = nI (zp_cl k)
/-! rank -/
def zp_ra (n : Nat) (f : Nat → Nat) : Nat → Nat
  | 0 => 0
  | i + 1 => zp_ra n f i + f i * zp_wm (n - 1 - i) (zp_bl f i)
/-! partition -/
def zp_pi (ea : Nat) : Nat → Nat → Nat → Nat × Nat
  | 0, l, h => (l, h)
  | d + 1, l, h => cond (Nat.ble ea l) (zp_pi ea d (l - ea) (h + 1)) (l, h)
def zp_pn (n i : Nat) (s : Nat × Nat × Nat) (r : Nat × Nat) : Nat × Nat × Nat := (r.1, cond (Nat.beq r.2 s.2.1) (s.2.1 + 1) s.2.1, s.2.2 + r.2 * 8 ^ i)
def zp_po (n k : Nat) : Nat → Nat × Nat × Nat
  | 0 => (k, 0, 0)
  | i + 1 => zp_pn n i (zp_po n k i) (zp_pi (zp_wm (n - 1 - i) (zp_po n k i).2.1) (zp_po n k i).2.1 (zp_po n k i).1 0)
theorem zp_pi_b (ea : Nat) : ∀ d l h, (zp_pi ea d l h).1 ≤ l ∧ (zp_pi ea d l h).2 ≤ h + d := by
  intro d
  induction d with
  | zero => intro l h; exact ⟨Nat.le_refl l, Nat.le_refl h⟩
  | succ d ih =>
    intro l h
    unfold zp_pi
    cases Nat.ble ea l
    · exact ⟨Nat.le_refl l, by show h ≤ h + (d + 1); omega⟩
    · have := ih (l - ea) (h + 1)
      exact ⟨by show (zp_pi ea d (l - ea) (h + 1)).1 ≤ l; omega, by show (zp_pi ea d (l - ea) (h + 1)).2 ≤ h + (d + 1); omega⟩
theorem zp_po_s (n k i : Nat) : zp_po n k (i + 1) = zp_pn n i (zp_po n k i) (zp_pi (zp_wm (n - 1 - i) (zp_po n k i).2.1) (zp_po n k i).2.1 (zp_po n k i).1 0) := rfl
theorem zp_po_b (n k : Nat) : ∀ i, i ≤ 7 → (zp_po n k i).1 ≤ k ∧ (zp_po n k i).2.1 ≤ i ∧ (zp_po n k i).2.2 < 8 ^ i := by
  intro i
  induction i with
  | zero => intro _; exact ⟨Nat.le_refl k, Nat.le_refl 0, Nat.one_pos⟩
  | succ i ih =>
    intro hi
    obtain ⟨h1, h2, h3⟩ := ih (by omega)
    rw [zp_po_s]
    have hp := zp_pi_b (zp_wm (n - 1 - i) (zp_po n k i).2.1) (zp_po n k i).2.1 (zp_po n k i).1 0
    generalize zp_pi (zp_wm (n - 1 - i) (zp_po n k i).2.1) (zp_po n k i).2.1 (zp_po n k i).1 0 = r at hp ⊢
    generalize zp_po n k i = s at h1 h2 h3 hp ⊢
    refine ⟨by show r.1 ≤ k; omega, ?_, ?_⟩
    · show cond (Nat.beq r.2 s.2.1) (s.2.1 + 1) s.2.1 ≤ i + 1
      cases Nat.beq r.2 s.2.1
      · show s.2.1 ≤ i + 1; omega
      · show s.2.1 + 1 ≤ i + 1; omega
    · show s.2.2 + r.2 * 8 ^ i < 8 ^ (i + 1)
      have h4 : r.2 * 8 ^ i ≤ 7 * 8 ^ i := Nat.mul_le_mul_right _ (by omega)
      rw [Nat.pow_succ]
      omega
theorem zb_or (a b : Nat) : nI a ||| nI b = nI (a ||| b) := by
  apply Int32.toBitVec_inj.1
  show BitVec.ofNat 32 a ||| BitVec.ofNat 32 b = BitVec.ofNat 32 (a ||| b)
  apply BitVec.eq_of_getLsbD_eq
  intro i hi
  simp [hi]
theorem zb_orc {c h i : Nat} (hc : c < 8 ^ i) (hh : h < 8) (hi : i < 7) : nI c ||| (nI h <<< ((3 * nI i) &&& 31)) = nI (c + h * 8 ^ i) := by
  have h8 : 8 ^ i ≤ 8 ^ 6 := Nat.pow_le_pow_right (by decide) (by omega)
  have h9 : h * 8 ^ i ≤ 7 * 8 ^ i := Nat.mul_le_mul_right _ (by omega)
  have h6 : (8 : Nat) ^ 6 = 262144 := by decide
  rw [zb_3m, pk_shlN _ (3 * i) (s_l (3 * i) (by omega)) (by rw [zb_8p]; omega), zb_or, zb_8p]
  have e := Nat.two_pow_add_eq_or_of_lt (i := 3 * i) (b := c) (by rw [zb_8p]; exact hc) h
  rw [zb_8p, Nat.mul_comm] at e
  rw [Nat.or_comm, ← e, Nat.add_comm]
section
variable {n e : Nat} {re pa wa pd ba : Nat → Int32}
theorem zx_ran18 {post : Int32 → Prop} {bk : Nat → Int32} {f : Nat → Nat} (hn : n ≤ 7) (he : e < 2) (hw : zx_W wa) (hr : zx_R bk (7 * e) n f) (hf : ∀ i, i < n → f i < 8) (K : post (nI (zp_ra n f n))) :
    ∀ (N i : Nat), i ≤ n → n - i < N → wX_rank_18 post (nI e) (nI n) bk re pa wa pd ba N (nI (zp_ra n f i)) (nI (zp_bl f i)) (nI i) := by
  intro N
  induction N with
  | zero => intro i _ hN; omega
  | succ N ih =>
    intro i hi hN
    have hb := zp_bl_le f i
    refine pk_le n i (fun z => ?_) (fun z => ?_)
    · have e1 : i = n := by omega
      subst e1
      exact K
    · have hfi := hf i z
      have st := ih (i + 1) (by omega) (by omega)
      rw [zp_bl_s] at st
      refine zx_at hn he z hr ?_
      have e1 : 8 * (nI n - 1 - nI i) + nI (zp_bl f i) = nI (8 * (n - 1 - i) + zp_bl f i) := by
        rw [zb_s1 (by omega), pk_sub (by omega), zb_8m, nI_add]
      rw [e1, nI_clamp (by omega : 8 * (n - 1 - i) + zp_bl f i < 2 ^ 31), hw (n - 1 - i) (zp_bl f i) (by omega), pk_mul, nI_add]
      refine ⟨vp_in_nI (by omega) (by omega), nm_e ?_⟩
      refine pk_eq (f i) (zp_bl f i) (fun q => ?_) (fun q => ?_)
      · rw [if_pos q] at st
        exact nm_r (nI_1 _) (nm_r (nI_1 _) st)
      · rw [if_neg q] at st
        exact nm_r (nI_1 _) st
theorem zx_ran {post : Int32 → Prop} {bk : Nat → Int32} {f : Nat → Nat} (hn : n ≤ 7) (he : e < 2) (hw : zx_W wa) (hr : zx_R bk (7 * e) n f) (hf : ∀ i, i < n → f i < 8) (K : post (nI (zp_ra n f n))) : wpX_rank post (nI n, bk, re, pa, wa, pd, ba) (nI e) := by
  unfold wpX_rank
  try dsimp only
  refine zx_bE0 he ?_
  exact br_t rfl ⟨n + 1, zx_ran18 hn he hw hr hf K (n + 1) 0 (by omega) (by omega)⟩
theorem zx_par89 {post : Int32 → Prop} {J : Int32 → Int32 → Int32 → Int32 → Prop} {bk : Nat → Int32} {x : Int32} {l m c i h : Nat} (hi : i < 7) (hc : c < 8 ^ i) (hm : m ≤ i) (hh : h ≤ m) (K : J (nI l) (nI (cond (Nat.beq h m) (m + 1) m)) (nI (c + h * 8 ^ i)) (nI (i + 1))) : wX_partition_89 post J (nI l) (nI m) (nI c) (nI i) (nI h) x bk re pa wa pd ba := by
  refine nm_r (zb_orc hc (by omega) hi) ?_
  refine pk_eq h m (fun q => ?_) (fun q => ?_)
  · rw [q, Nat.beq_refl] at K
    rw [← q] at K ⊢
    exact nm_r (nI_1 _) (nm_r (nI_1 _) K)
  · rw [zb_bq q] at K
    exact nm_r (nI_1 _) K
theorem zx_par66 {post : Int32 → Prop} {J : Int32 → Int32 → Int32 → Int32 → Prop} {bk : Nat → Int32} {x : Int32} {m c i ea : Nat} (hi : i < 7) (hc : c < 8 ^ i) (hm : m ≤ i) (hea : ea < 2 ^ 31) :
    ∀ (d N l h : Nat), h + d = m → d < N → l < 2 ^ 31 → J (nI (zp_pi ea d l h).1) (nI (cond (Nat.beq (zp_pi ea d l h).2 m) (m + 1) m)) (nI (c + (zp_pi ea d l h).2 * 8 ^ i)) (nI (i + 1)) → wX_partition_66 post J (nI m) (nI c) (nI i) (nI ea) x bk re pa wa pd ba N (nI l) (nI h) := by
  intro d
  induction d with
  | zero =>
    intro N l h hh hN hl K
    obtain ⟨M, rfl⟩ : ∃ M, N = M + 1 := ⟨N - 1, by omega⟩
    refine br_t (nI_le (by omega) (by omega)) ?_
    exact zx_par89 hi hc hm (by omega) K
  | succ d ih =>
    intro N l h hh hN hl K
    obtain ⟨M, rfl⟩ : ∃ M, N = M + 1 := ⟨N - 1, by omega⟩
    refine br_f (nI_ge (by omega) (by omega)) ?_
    rw [show zp_pi ea (d + 1) l h = cond (Nat.ble ea l) (zp_pi ea d (l - ea) (h + 1)) (l, h) from rfl] at K
    refine pk_lt l ea (fun q => ?_) (fun q => ?_)
    · have hb : Nat.ble ea l = false := by
        cases y : Nat.ble ea l
        · rfl
        · have := Nat.le_of_ble_eq_true y; omega
      rw [hb] at K
      exact zx_par89 hi hc hm (by omega) K
    · rw [Nat.ble_eq_true_of_le q] at K
      refine nm_r (pk_sub q) (nm_r (nI_1 h) ?_)
      exact ih M (l - ea) (h + 1) (by omega) (by omega) (by omega) K
theorem zp_wm_b : ∀ m, m < 8 → ∀ k, k < 8 → m + k < 8 → zp_wm m k < 2000 := by decide +kernel
theorem zx_par33 {post : Int32 → Prop} {bk : Nat → Int32} {k : Nat} (hn : n ≤ 7) (hw : zx_W wa) (hk : k < 2 ^ 31) (K : post (nI (zp_po n k n).2.2)) :
    ∀ (N i : Nat), i ≤ n → n - i < N → wX_partition_33 post (nI n) bk re pa wa pd ba N (nI (zp_po n k i).1) (nI (zp_po n k i).2.1) (nI (zp_po n k i).2.2) (nI i) := by
  intro N
  induction N with
  | zero => intro i _ hN; omega
  | succ N ih =>
    intro i hi hN
    have hb := zp_po_b n k i (by omega)
    refine pk_le n i (fun z => ?_) (fun z => ?_)
    · have e1 : i = n := by omega
      subst e1
      exact K
    · have e1 : 8 * (nI n - 1 - nI i) + nI (zp_po n k i).2.1 = nI (8 * (n - 1 - i) + (zp_po n k i).2.1) := by
        rw [zb_s1 (by omega), pk_sub (by omega), zb_8m, nI_add]
      have hwb := zp_wm_b (n - 1 - i) (by omega) (zp_po n k i).2.1 (by omega) (by omega)
      rw [e1, nI_clamp (by omega : 8 * (n - 1 - i) + (zp_po n k i).2.1 < 2 ^ 31), hw (n - 1 - i) _ (by omega)]
      refine ⟨vp_in_nI (by omega) (by omega), nm_e ⟨(zp_po n k i).2.1 + 1, ?_⟩⟩
      refine zx_par66 (by omega) hb.2.2 hb.2.1 (by omega) (zp_po n k i).2.1 _ _ 0 (by omega) (by omega) (by omega) ?_
      exact ih (i + 1) (by omega) (by omega)
theorem zx_par {post : Int32 → Prop} {bk : Nat → Int32} {x : Int32} (hn : n ≤ 7) (hw : zx_W wa) (K0 : (x < 0 ∨ ∃ k, k < 2 ^ 31 ∧ x = nI k ∧ zp_wm n 0 ≤ k) → post (-1000001)) (K : ∀ k, k < zp_wm n 0 → x = nI k → post (nI (zp_po n k n).2.2)) : wpX_partition post (nI n, bk, re, pa, wa, pd, ba) x := by
  by_cases hx : x < 0
  · exact br_t hx (K0 (Or.inl hx))
  · refine br_f hx ?_
    obtain ⟨k, hk, rfl⟩ := nI_of hx
    have hwb := zp_wm_b n (by omega) 0 (by omega) (by omega)
    have hw0 : wa (8 * n) = nI (zp_wm n 0) := hw n 0 (by omega)
    rw [zb_8m, nI_clamp (by omega : 8 * n < 2 ^ 31), hw0]
    refine ⟨vp_in_nI (by omega) (by omega), pk_lt k (zp_wm n 0) (fun q => ?_) (fun q => ?_)⟩
    · exact ⟨n + 1, zx_par33 hn hw hk (K k q rfl) (n + 1) 0 (by omega) (by omega)⟩
    · exact K0 (Or.inr ⟨k, hk, rfl, q⟩)
/-! isFiner -/
theorem zp_ij {i j : Nat} (hi : i < n) (hj : j < n) : i * n + j < n * n ∧ (i * n + j) / n = i ∧ (i * n + j) % n = j := by
  have h1 : (i + 1) * n ≤ n * n := Nat.mul_le_mul_right n hi
  have h2 : (i + 1) * n = i * n + n := Nat.succ_mul i n
  refine ⟨by omega, ?_, ?_⟩
  · rw [Nat.add_comm, Nat.add_mul_div_right _ _ (by omega), Nat.div_eq_of_lt hj, Nat.zero_add]
  · rw [Nat.add_comm, Nat.add_mul_mod_self_right, Nat.mod_eq_of_lt hj]
theorem zp_fin2 {f g : Nat → Nat} {b : Bool} (h : b = true ↔ ∀ k, k < n * n → f (k / n) = f (k % n) → g (k / n) = g (k % n)) : b = zp_fn (zp_tg n f) (zp_tg n g) := by
  apply Bool.eq_iff_iff.mpr
  rw [h, zp_tg_fn]
  constructor
  · intro H i j hi hj q
    obtain ⟨h1, h2, h3⟩ := zp_ij hi hj
    have h4 := H _ h1
    rw [h2, h3] at h4
    exact h4 q
  · intro H k hk
    have hd := zp_dm hk
    exact H _ _ hd.1 hd.2
theorem zx_isf4 {post : Int32 → Prop} {bk : Nat → Int32} {f g : Nat → Nat} (h1 : 1 ≤ n) (hn : n ≤ 7) (R : zx_R bk (7 * 0) n f) (S : zx_R bk (7 * 1) n g) (Hf : ∀ i, i < n → f i < 8) (Hg : ∀ i, i < n → g i < 8) (K : post (zb_b (zp_fn (zp_tg n f) (zp_tg n g)))) :
    ∀ (N k : Nat) (b : Bool), k ≤ n * n → n * n - k < N → (b = true ↔ ∀ j, j < k → f (j / n) = f (j % n) → g (j / n) = g (j % n)) → wX_isFiner_4 post (nI n) bk re pa wa pd ba N (zb_b b) (nI k) := by
  have hnn : n * n ≤ 49 := Nat.mul_le_mul hn hn
  intro N
  induction N with
  | zero => intro k b _ hN; omega
  | succ N ih =>
    intro k b hk hN hb
    refine pk_le (n * n) k (fun z => ?_) (fun z => ?_) (hx := pk_mul n n)
    · have e1 : k = n * n := by omega
      subst e1
      rw [zp_fin2 hb]
      exact ⟨zb_nar _, K⟩
    · have hd := zp_dm z
      have h0 : ¬ nI n = 0 := nI_ne0 h1 (by omega)
      refine And.intro h0 (nm_r (pk_div (by omega) (by omega) (by omega)) (And.intro h0 (nm_r (pk_rem (by omega) (by omega) (by omega)) ?_)))
      have f1 := Hf _ hd.1
      have f2 := Hf _ hd.2
      have g1 := Hg _ hd.1
      have g2 := Hg _ hd.2
      have up : ∀ {b' : Bool}, (b' = true ↔ (b = true ∧ (f (k / n) = f (k % n) → g (k / n) = g (k % n)))) → wX_isFiner_4 post (nI n) bk re pa wa pd ba N (zb_b b') (nI (k + 1)) := by
        intro b' h'
        refine ih (k + 1) b' (by omega) (by omega) (h'.trans ?_)
        rw [hb]
        constructor
        · intro ⟨A, B⟩ j hj
          rcases Nat.lt_or_ge j k with w | w
          · exact A j w
          · have ej : j = k := by omega
            rw [ej]; exact B
        · intro A
          exact ⟨fun j hj => A j (by omega), A k (by omega)⟩
      cases b
      · refine br_t zb_bf (nm_r (nI_1 k) ?_)
        exact up (b' := false) ⟨fun h => absurd h (by decide), fun h => absurd h.1 (by decide)⟩
      · refine br_f zb_10 ?_
        refine zx_at (e := 0) hn (by omega) hd.1 R ?_
        refine zx_at (e := 0) hn (by omega) hd.2 R ?_
        refine pk_eq (f (k / n)) (f (k % n)) (fun q => ?_) (fun q => ?_)
        · refine zx_at (e := 1) hn (by omega) hd.1 S ?_
          refine zx_at (e := 1) hn (by omega) hd.2 S ?_
          refine pk_eq (g (k / n)) (g (k % n)) (fun w => ?_) (fun w => ?_)
          · refine nm_r (nI_1 k) ?_
            exact up (b' := true) ⟨fun _ => ⟨rfl, fun _ => w⟩, fun _ => rfl⟩
          · refine nm_r (nI_1 k) ?_
            exact up (b' := false) ⟨fun h => absurd h (by decide), fun h => absurd (h.2 q) w⟩
        · refine nm_r (nI_1 k) ?_
          exact up (b' := true) ⟨fun _ => ⟨rfl, fun z => absurd z q⟩, fun _ => rfl⟩
theorem zx_isf {post : Int32 → Prop} {bk : Nat → Int32} {f g : Nat → Nat} (h1 : 1 ≤ n) (hn : n ≤ 7) (R : zx_R bk (7 * 0) n f) (S : zx_R bk (7 * 1) n g) (Hf : ∀ i, i < n → f i < 8) (Hg : ∀ i, i < n → g i < 8) (K : post (zb_b (zp_fn (zp_tg n f) (zp_tg n g)))) : wpX_isFiner post (nI n, bk, re, pa, wa, pd, ba) :=
  ⟨n * n + 1, zx_isf4 h1 hn R S Hf Hg K (n * n + 1) 0 true (by omega) (by omega) ⟨fun _ j hj => absurd hj (Nat.not_lt_zero j), fun _ => rfl⟩⟩
end
end
section
/-! how many blocks of the finer one each block of the coarser one has -/
def zp_pf (p q : Nat → Nat) : Nat → Nat → Nat
  | 0 => fun _ => 0
  | i + 1 => if p i = zp_bl p i then zp_st (zp_pf p q i) (q i) (zp_pf p q i (q i) + 1) else zp_pf p q i
theorem zp_pf_s (p q : Nat → Nat) (i : Nat) : zp_pf p q (i + 1) = if p i = zp_bl p i then zp_st (zp_pf p q i) (q i) (zp_pf p q i (q i) + 1) else zp_pf p q i := rfl
theorem zp_pf_le (p q : Nat → Nat) : ∀ i b, zp_pf p q i b ≤ i := by
  intro i
  induction i with
  | zero => intro b; exact Nat.le_refl 0
  | succ i ih =>
    intro b
    rw [zp_pf_s]
    have h1 := ih b
    have h2 := ih (q i)
    split
    · by_cases z : b = q i
      · rw [z, zp_st_s]; omega
      · rw [zp_st_n z]; omega
    · omega
def zp_iv (g : Nat → Nat) : Nat → Nat
  | 0 => 1
  | b + 1 => zp_iv g b * zp_wm (g b) 0
/-! chains: 0 stands for 'too large' -/
def zp_cd (k r s : Nat) : Nat := cond (Nat.ble 2147483648 (r * (k * (k - 1) / 2) * s)) 0 (r * (k * (k - 1) / 2) * s / (k - 1))
def zp_ci : Nat → Nat → Nat → Nat → Nat × Nat
  | 0, _, r, s => (r, s)
  | d + 1, k, r, s => zp_ci d (k + 1) (zp_cd k r (s + 1)) (s + 1)
def zp_co (g : Nat → Nat) : Nat → Nat × Nat
  | 0 => (1, 0)
  | b + 1 => zp_ci (g b - 1) 2 (zp_co g b).1 (zp_co g b).2
theorem zp_ci_0 : ∀ d k s, (zp_ci d k 0 s).1 = 0 := by
  intro d
  induction d with
  | zero => intro k s; rfl
  | succ d ih =>
    intro k s
    have e : zp_cd k 0 (s + 1) = 0 := by
      unfold zp_cd
      rw [Nat.zero_mul, Nat.zero_mul, Nat.zero_div]
      rfl
    show (zp_ci d (k + 1) (zp_cd k 0 (s + 1)) (s + 1)).1 = 0
    rw [e]
    exact ih _ _
theorem zp_co_0 {g : Nat → Nat} {b : Nat} : ∀ d, (zp_co g b).1 = 0 → (zp_co g (b + d)).1 = 0 := by
  intro d
  induction d with
  | zero => intro h; exact h
  | succ d ih =>
    intro h
    show (zp_ci (g (b + d) - 1) 2 (zp_co g (b + d)).1 (zp_co g (b + d)).2).1 = 0
    rw [ih h]
    exact zp_ci_0 _ _ _
theorem zp_ci_s : ∀ d k r s, (zp_ci d k r s).2 = s + d := by
  intro d
  induction d with
  | zero => intro k r s; rfl
  | succ d ih =>
    intro k r s
    show (zp_ci d (k + 1) (zp_cd k r (s + 1)) (s + 1)).2 = s + (d + 1)
    rw [ih]
    omega
/-! signs, modulo 2^32 -/
def zp_sq (m s : Nat) : Nat := cond (Nat.beq m 0) s (cond (Nat.beq (m % 2) 1) (s * zp_fa (m - 1) % 4294967296) ((4294967296 - s % 4294967296) * zp_fa (m - 1) % 4294967296))
def zp_sg (g : Nat → Nat) : Nat → Nat
  | 0 => 1
  | b + 1 => zp_sq (g b) (zp_sg g b)
def zp_uu (f : Nat → Nat) (n : Nat) : Nat → Nat
  | 0 => 1
  | b + 1 => zp_uu f n b * zp_cl (zp_sz f b n)
theorem zb_md (a : Nat) : nI (a % 4294967296) = nI a := zb_mod (Nat.mod_mod _ _)
theorem zb_neg (a : Nat) : -nI a = nI (4294967296 - a % 4294967296) := by
  have h : nI (4294967296 - a % 4294967296) + nI a = 0 := by
    rw [nI_add, ← nI_0]
    apply zb_mod
    have := Nat.mod_lt a (by decide : 0 < 4294967296)
    omega
  have h2 : nI (4294967296 - a % 4294967296) = nI (4294967296 - a % 4294967296) + nI a + (-nI a) := by
    rw [Int32.add_assoc, Int32.add_right_neg, Int32.add_zero]
  rw [h2, h, Int32.zero_add]
section
variable {n e : Nat} {re wa pd ba : Nat → Int32}
theorem zx_fpa25 {post : SX → Prop} {bk : Nat → Int32} {p q : Nat → Nat} (hn : n ≤ 7) (R : zx_R bk (7 * 0) n p) (S : zx_R bk (7 * 1) n q) (Hp : ∀ i, i < n → p i < 7) (Hq : ∀ i, i < n → q i < 7)
    (K : ∀ pa' : Nat → Int32, zx_R pa' 0 7 (zp_pf p q n) → post (nI n, bk, re, pa', wa, pd, ba)) :
    ∀ (N i : Nat) (pa : Nat → Int32), i ≤ n → n - i < N → zx_R pa 0 7 (zp_pf p q i) → wX_findParts_25 post (nI n) N (nI (zp_bl p i)) (nI i) bk re pa wa pd ba := by
  intro N
  induction N with
  | zero => intro i pa _ hN; omega
  | succ N ih =>
    intro i pa hi hN Q
    have hb := zp_bl_le p i
    refine pk_le n i (fun z => ?_) (fun z => ?_)
    · have e1 : i = n := by omega
      subst e1
      exact K pa Q
    · have hpi := Hp i z
      have hqi := Hq i z
      have st := ih (i + 1)
      rw [zp_bl_s, zp_pf_s] at st
      refine zx_at (e := 0) hn (by omega) z R ?_
      refine pk_eq (p i) (zp_bl p i) (fun w => ?_) (fun w => ?_)
      · rw [if_pos w, if_pos w] at st
        refine zx_at (e := 1) hn (by omega) z S ?_
        have hq0 := Q (q i) hqi
        rw [Nat.zero_add] at hq0
        have hle := zp_pf_le p q i (q i)
        rw [nI_clamp (by omega : q i < 2 ^ 31), hq0, nI_1 (zp_pf p q i (q i)), zb_nb (by omega)]
        refine ⟨vp_in_nI hqi (by omega), vp_in_nI hqi (by omega), fun p2 e2 => ?_⟩
        refine nm_r (nI_1 _) (nm_r (nI_1 _) ?_)
        refine st p2 (by omega) (by omega) (fun j hj => ?_)
        rw [Nat.zero_add, e2]
        by_cases v : j = q i
        · rw [v, pk_us, zp_st_s]
        · rw [pk_un v, zp_st_n v]
          have := Q j hj
          rw [Nat.zero_add] at this
          exact this
      · rw [if_neg w, if_neg w] at st
        refine nm_r (nI_1 _) ?_
        exact st pa (by omega) (by omega) Q
theorem zx_fpa2 {post : SX → Prop} {bk : Nat → Int32} {p q : Nat → Nat} (hn : n ≤ 7) (R : zx_R bk (7 * 0) n p) (S : zx_R bk (7 * 1) n q) (Hp : ∀ i, i < n → p i < 7) (Hq : ∀ i, i < n → q i < 7)
    (K : ∀ pa' : Nat → Int32, zx_R pa' 0 7 (zp_pf p q n) → post (nI n, bk, re, pa', wa, pd, ba)) :
    ∀ (N i : Nat) (pa : Nat → Int32), i ≤ 7 → 7 - i < N → zx_R pa 0 i (fun _ => 0) → wX_findParts_2 post (nI n) N (nI i) bk re pa wa pd ba := by
  intro N
  induction N with
  | zero => intro i pa _ hN; omega
  | succ N ih =>
    intro i pa hi hN Q
    refine pk_le 7 i (fun z => ?_) (fun z => ?_)
    · have e1 : i = 7 := by omega
      subst e1
      exact ⟨n + 1, zx_fpa25 hn R S Hp Hq K (n + 1) 0 pa (by omega) (by omega) Q⟩
    · rw [nI_clamp (by omega : i < 2 ^ 31), zb_n0]
      refine ⟨vp_in_nI z (by omega), fun p2 e2 => nm_r (nI_1 i) ?_⟩
      refine ih (i + 1) p2 (by omega) (by omega) (fun j hj => ?_)
      rw [e2, Nat.zero_add]
      by_cases v : j = i
      · rw [v, pk_us]
      · rw [pk_un v]
        have := Q j (by omega)
        rw [Nat.zero_add] at this
        exact this
theorem zx_fpa {post : SX → Prop} {bk pa : Nat → Int32} {p q : Nat → Nat} (hn : n ≤ 7) (R : zx_R bk (7 * 0) n p) (S : zx_R bk (7 * 1) n q) (Hp : ∀ i, i < n → p i < 7) (Hq : ∀ i, i < n → q i < 7)
    (K : ∀ pa' : Nat → Int32, zx_R pa' 0 7 (zp_pf p q n) → post (nI n, bk, re, pa', wa, pd, ba)) : wpX_findParts post (nI n, bk, re, pa, wa, pd, ba) :=
  ⟨8, zx_fpa2 hn R S Hp Hq K 8 0 pa (by omega) (by omega) (fun j hj => absurd hj (Nat.not_lt_zero j))⟩
theorem zx_int19 {post : Int32 → SX → Prop} {bk pa : Nat → Int32} {x : Int32} {g : Nat → Nat} (hw : zx_W wa) (Q : zx_R pa 0 7 g) (hg : ∀ b, b < 7 → g b ≤ 7) (K : post (nI (zp_iv g 7)) (x, bk, re, pa, wa, pd, ba)) :
    ∀ (N b : Nat), b ≤ 7 → 7 - b < N → wX_interval_19 post x bk re pa wa pd ba N (nI (zp_iv g b)) (nI b) := by
  intro N
  induction N with
  | zero => intro b _ hN; omega
  | succ N ih =>
    intro b hb hN
    refine pk_le 7 b (fun z => ?_) (fun z => ?_)
    · have e1 : b = 7 := by omega
      subst e1
      exact K
    · have hg1 := hg b z
      have hp := Q b z
      rw [Nat.zero_add] at hp
      have hw0 : wa (8 * g b) = nI (zp_wm (g b) 0) := hw (g b) 0 (by omega)
      rw [nI_clamp (by omega : b < 2 ^ 31), hp, zb_8m, nI_clamp (by omega : 8 * g b < 2 ^ 31), hw0, pk_mul]
      refine ⟨vp_in_nI z (by omega), vp_in_nI (by omega) (by omega), nm_e (nm_r (nI_1 b) ?_)⟩
      exact ih (b + 1) (by omega) (by omega)
theorem zx_int {post : Int32 → SX → Prop} {bk pa : Nat → Int32} {p q : Nat → Nat} (h1 : 1 ≤ n) (hn : n ≤ 7) (hw : zx_W wa) (R : zx_R bk (7 * 0) n p) (S : zx_R bk (7 * 1) n q) (Hp : ∀ i, i < n → p i < 7) (Hq : ∀ i, i < n → q i < 7)
    (K0 : zp_fn (zp_tg n p) (zp_tg n q) = false → post 0 (nI n, bk, re, pa, wa, pd, ba))
    (K : zp_fn (zp_tg n p) (zp_tg n q) = true → ∀ pa' : Nat → Int32, post (nI (zp_iv (zp_pf p q n) 7)) (nI n, bk, re, pa', wa, pd, ba)) : wpX_interval post (nI n, bk, re, pa, wa, pd, ba) := by
  unfold wpX_interval
  try dsimp only
  refine zx_isf h1 hn R S (fun i hi => by have := Hp i hi; omega) (fun i hi => by have := Hq i hi; omega) ?_
  cases w : zp_fn (zp_tg n p) (zp_tg n q)
  · exact br_t zb_bf (K0 w)
  · refine br_f zb_10 ?_
    refine zx_fpa hn R S Hp Hq (fun pa' Q => ?_)
    exact ⟨8, zx_int19 hw Q (fun b _ => by have := zp_pf_le p q n b; omega) (K w pa') 8 0 (by omega) (by omega)⟩
/-! fullChains -/
theorem zx_fch41 {post : Int32 → SX → Prop} {J : Int32 → Int32 → Int32 → Prop} {bk pa : Nat → Int32} {x : Int32} {b m : Nat} (hm : m ≤ 7) (hb : b < 7) :
    ∀ (d N k r s : Nat), k + d = (if m ≤ 1 then 2 else m + 1) → 2 ≤ k → d < N → (zp_ci d k r s).1 ≠ 0 → J (nI (zp_ci d k r s).1) (nI (zp_ci d k r s).2) (nI (b + 1)) → wX_fullChains_41 post J (nI b) (nI m) x bk re pa wa pd ba N (nI r) (nI s) (nI k) := by
  intro d
  induction d with
  | zero =>
    intro N k r s hk h2 hN h0 K
    obtain ⟨M, rfl⟩ : ∃ M, N = M + 1 := ⟨N - 1, by omega⟩
    have hmk : m < k := by split at hk <;> omega
    refine br_t (nI_lt hmk (by split at hk <;> omega)) ?_
    exact nm_r (nI_1 b) K
  | succ d ih =>
    intro N k r s hk h2 hN h0 K
    obtain ⟨M, rfl⟩ : ∃ M, N = M + 1 := ⟨N - 1, by omega⟩
    have hmk : k ≤ m := by split at hk <;> omega
    refine br_f (nI_nlt hmk (by omega)) ?_
    rw [show zp_ci (d + 1) k r s = zp_ci d (k + 1) (zp_cd k r (s + 1)) (s + 1) from rfl] at h0 K
    have ht : r * (k * (k - 1) / 2) * (s + 1) < 2147483648 := by
      rcases Nat.lt_or_ge (r * (k * (k - 1) / 2) * (s + 1)) 2147483648 with z | z
      · exact z
      · exfalso
        apply h0
        unfold zp_cd
        rw [Nat.ble_eq_true_of_le z]
        exact zp_ci_0 _ _ _
    have hcd : zp_cd k r (s + 1) = r * (k * (k - 1) / 2) * (s + 1) / (k - 1) := by
      unfold zp_cd
      have hb : Nat.ble 2147483648 (r * (k * (k - 1) / 2) * (s + 1)) = false := by
        cases y : Nat.ble 2147483648 (r * (k * (k - 1) / 2) * (s + 1))
        · rfl
        · have := Nat.le_of_ble_eq_true y; omega
      rw [hb]; rfl
    have hkk : k * (k - 1) ≤ 7 * 7 := Nat.mul_le_mul (by omega) (by omega)
    refine nm_r (nI_1 s) ?_
    refine And.intro (by decide) ?_
    rw [zb_s1 (by omega : 1 ≤ k)]
    refine And.intro (nI_ne0 (by omega) (by omega)) ?_
    have e1 : nI r * (nI k * nI (k - 1) / 2) * nI (s + 1) / nI (k - 1) = nI (zp_cd k r (s + 1)) := by
      have e2 : nI (k * (k - 1)) / 2 = nI (k * (k - 1) / 2) := pk_div (d := 2) (by omega) (by decide) (by decide)
      rw [pk_mul, e2, pk_mul, pk_mul, pk_div (by omega) (by omega) (by omega), hcd]
    refine nm_r e1 (nm_r (nI_1 k) ?_)
    exact ih M (k + 1) _ (s + 1) (by omega) (by omega) (by omega) h0 K
theorem zx_fch22 {post : Int32 → SX → Prop} {bk pa : Nat → Int32} {x : Int32} {g : Nat → Nat} (Q : zx_R pa 0 7 g) (hg : ∀ b, b < 7 → g b ≤ 7) (h0 : (zp_co g 7).1 ≠ 0) (K : post (nI (zp_co g 7).1) (x, bk, re, pa, wa, pd, ba)) :
    ∀ (N b : Nat), b ≤ 7 → 7 - b < N → wX_fullChains_22 post x bk re pa wa pd ba N (nI (zp_co g b).1) (nI (zp_co g b).2) (nI b) := by
  intro N
  induction N with
  | zero => intro b _ hN; omega
  | succ N ih =>
    intro b hb hN
    refine pk_le 7 b (fun z => ?_) (fun z => ?_)
    · have e1 : b = 7 := by omega
      subst e1
      exact K
    · have hg1 := hg b z
      have hp := Q b z
      rw [Nat.zero_add] at hp
      rw [nI_clamp (by omega : b < 2 ^ 31), hp]
      refine ⟨vp_in_nI z (by omega), nm_e ⟨8, ?_⟩⟩
      refine zx_fch41 hg1 z (g b - 1) 8 2 _ _ (by split <;> omega) (by omega) (by omega) ?_ (ih (b + 1) (by omega) (by omega))
      intro w
      apply h0
      have := zp_co_0 (g := g) (b := b + 1) (6 - b) w
      rw [show b + 1 + (6 - b) = 7 by omega] at this
      exact this
theorem zx_fch {post : Int32 → SX → Prop} {bk pa : Nat → Int32} {p q : Nat → Nat} (h1 : 1 ≤ n) (hn : n ≤ 7) (R : zx_R bk (7 * 0) n p) (S : zx_R bk (7 * 1) n q) (Hp : ∀ i, i < n → p i < 7) (Hq : ∀ i, i < n → q i < 7)
    (K0 : zp_fn (zp_tg n p) (zp_tg n q) = false → post 0 (nI n, bk, re, pa, wa, pd, ba)) (hc : zp_fn (zp_tg n p) (zp_tg n q) = true → (zp_co (zp_pf p q n) 7).1 ≠ 0)
    (K : zp_fn (zp_tg n p) (zp_tg n q) = true → ∀ pa' : Nat → Int32, post (nI (zp_co (zp_pf p q n) 7).1) (nI n, bk, re, pa', wa, pd, ba)) : wpX_fullChains post (nI n, bk, re, pa, wa, pd, ba) := by
  unfold wpX_fullChains
  try dsimp only
  refine zx_isf h1 hn R S (fun i hi => by have := Hp i hi; omega) (fun i hi => by have := Hq i hi; omega) ?_
  cases w : zp_fn (zp_tg n p) (zp_tg n q)
  · exact br_t zb_bf (K0 w)
  · refine br_f zb_10 ?_
    refine zx_fpa hn R S Hp Hq (fun pa' Q => ?_)
    exact ⟨8, zx_fch22 Q (fun b _ => by have := zp_pf_le p q n b; omega) (hc w) (K w pa') 8 0 (by omega) (by omega)⟩
/-! sign -/
theorem zx_sgn19 {post : Int32 → SX → Prop} {bk pa : Nat → Int32} {x : Int32} {g : Nat → Nat} (hd : zx_P pd) (Q : zx_R pa 0 7 g) (hg : ∀ b, b < 7 → g b ≤ 7) (K : post (nI (zp_sg g 7)) (x, bk, re, pa, wa, pd, ba)) :
    ∀ (N b : Nat), b ≤ 7 → 7 - b < N → wX_sign_19 post x bk re pa wa pd ba N (nI (zp_sg g b)) (nI b) := by
  intro N
  induction N with
  | zero => intro b _ hN; omega
  | succ N ih =>
    intro b hb hN
    refine pk_le 7 b (fun z => ?_) (fun z => ?_)
    · have e1 : b = 7 := by omega
      subst e1
      exact K
    · have hg1 := hg b z
      have hp := Q b z
      rw [Nat.zero_add] at hp
      have st := ih (b + 1) (by omega) (by omega)
      rw [show zp_sg g (b + 1) = zp_sq (g b) (zp_sg g b) from rfl] at st
      unfold zp_sq at st
      rw [nI_clamp (by omega : b < 2 ^ 31), hp]
      refine ⟨vp_in_nI z (by omega), nm_e ?_⟩
      refine pk_le (g b) 0 (fun w => ?_) (fun w => ?_)
      · have e0 : g b = 0 := by omega
        rw [e0] at st
        exact nm_r (nI_1 b) st
      · have ha : nI (g b) &&& 1 = nI (g b % 2) := pk_andN (by omega) 1 (by decide)
        have hf := hd (g b - 1) (by omega)
        rw [zb_bq (by omega : g b ≠ 0)] at st
        rw [ha, zb_s1 (by omega), nI_clamp (by omega : g b - 1 < 2 ^ 31), hf]
        refine pk_eq (g b % 2) 1 (fun v => ?_) (fun v => ?_)
        · rw [v] at st
          refine ⟨vp_in_nI (by omega) (by omega), nm_r (pk_mul _ _) (nm_r (nI_1 b) ?_)⟩
          have st' : wX_sign_19 post x bk re pa wa pd ba N (nI (zp_sg g b * zp_fa (g b - 1) % 4294967296)) (nI (b + 1)) := st
          rw [zb_md] at st'
          exact st'
        · rw [zb_bq v] at st
          refine ⟨vp_in_nI (by omega) (by omega), nm_r (e' := nI ((4294967296 - zp_sg g b % 4294967296) * zp_fa (g b - 1))) (by rw [zb_neg, pk_mul]) (nm_r (nI_1 b) ?_)⟩
          have st' : wX_sign_19 post x bk re pa wa pd ba N (nI ((4294967296 - zp_sg g b % 4294967296) * zp_fa (g b - 1) % 4294967296)) (nI (b + 1)) := st
          rw [zb_md] at st'
          exact st'
theorem zx_sgn {post : Int32 → SX → Prop} {bk pa : Nat → Int32} {p q : Nat → Nat} (h1 : 1 ≤ n) (hn : n ≤ 7) (hd : zx_P pd) (R : zx_R bk (7 * 0) n p) (S : zx_R bk (7 * 1) n q) (Hp : ∀ i, i < n → p i < 7) (Hq : ∀ i, i < n → q i < 7)
    (K0 : zp_fn (zp_tg n p) (zp_tg n q) = false → post 0 (nI n, bk, re, pa, wa, pd, ba))
    (K : zp_fn (zp_tg n p) (zp_tg n q) = true → ∀ pa' : Nat → Int32, post (nI (zp_sg (zp_pf p q n) 7)) (nI n, bk, re, pa', wa, pd, ba)) : wpX_sign post (nI n, bk, re, pa, wa, pd, ba) := by
  unfold wpX_sign
  try dsimp only
  refine zx_isf h1 hn R S (fun i hi => by have := Hp i hi; omega) (fun i hi => by have := Hq i hi; omega) ?_
  cases w : zp_fn (zp_tg n p) (zp_tg n q)
  · exact br_t zb_bf (K0 w)
  · refine br_f zb_10 ?_
    refine zx_fpa hn R S Hp Hq (fun pa' Q => ?_)
    exact ⟨8, zx_sgn19 hd Q (fun b _ => by have := zp_pf_le p q n b; omega) (K w pa') 8 0 (by omega) (by omega)⟩
/-! uncrossed -/
theorem zx_unr36 {post : Int32 → Prop} {bk pa : Nat → Int32} {f : Nat → Nat} {m : Nat} (hn : n ≤ 7) (he : e < 2) (hB : zx_B ba) (hr : zx_R bk (7 * e) n f) (hf : ∀ i, i < n → f i < 8) (hm : m ≤ 8) (K : post (nI (zp_uu f n m))) :
    ∀ (N b : Nat), b ≤ m → m - b < N → wX_uncrossed_36 post (nI e) (nI m) (nI n) bk re pa wa pd ba N (nI (zp_uu f n b)) (nI b) := by
  intro N
  induction N with
  | zero => intro b _ hN; omega
  | succ N ih =>
    intro b hb hN
    refine pk_le m b (fun z => ?_) (fun z => ?_)
    · have e1 : b = m := by omega
      subst e1
      exact K
    · have hs := zp_sz_le f b n
      refine zx_siz hn he hr (fun i hi => by have := hf i hi; omega) (by omega) ?_
      refine And.intro (vp_in_nI (by omega) (by omega)) ?_
      rw [nI_clamp (by omega : zp_sz f b n < 2 ^ 31), hB (zp_sz f b n) (by omega), pk_mul]
      refine nm_e (nm_r (nI_1 b) ?_)
      exact ih (b + 1) (by omega) (by omega)
theorem zx_unr {post : Int32 → Prop} {bk pa : Nat → Int32} {f : Nat → Nat} (hn : n ≤ 7) (he : e < 2) (hB : zx_B ba) (hr : zx_R bk (7 * e) n f) (hf : ∀ i, i < n → f i < 7)
    (K0 : zp_xa n f 49 = true → post (-1000001)) (K : zp_xa n f 49 = false → post (nI (zp_uu f n (zp_mx f n + 1)))) : wpX_uncrossed post (nI n, bk, re, pa, wa, pd, ba) (nI e) := by
  unfold wpX_uncrossed
  try dsimp only
  refine zx_bE0 he ?_
  refine br_t rfl ?_
  refine zx_crs hn he hr (fun i hi => by have := hf i hi; omega) ?_
  cases q : zp_xa n f 49
  · refine br_t zb_bf ?_
    refine zx_cnt hn he hr (fun i hi => by have := hf i hi; omega) ?_
    have hm := zp_mx_lt (by omega : 0 < 7) n hf
    exact ⟨zp_mx f n + 2, zx_unr36 hn he hB hr (fun i hi => by have := hf i hi; omega) (by omega) (K q) _ 0 (by omega) (by omega)⟩
  · exact br_f zb_10 (K0 q)
end
end
section
/-! the component's constructor -/
def zb_cl (x : Int32) (n : Nat) : Prop := (1 ≤ x ∧ x ≤ 7 ∧ x = nI n) ∨ (1 ≤ x ∧ ¬ x ≤ 7 ∧ n = 7) ∨ (¬ 1 ≤ x ∧ n = 1)
theorem zb_cl_ex (x : Int32) : ∃ n, 1 ≤ n ∧ n ≤ 7 ∧ zb_cl x n := by
  by_cases h1 : 1 ≤ x
  · by_cases h7 : x ≤ 7
    · have h0 : ¬ x < 0 := by
        rw [Int32.lt_iff_toInt_lt]
        rw [Int32.le_iff_toInt_le] at h1
        have e1 : (1 : Int32).toInt = 1 := by decide
        have e0 : (0 : Int32).toInt = 0 := by decide
        omega
      obtain ⟨j, hj, e⟩ := nI_of2 (M := 7) (n := 7) (by decide) h0 h7
      subst e
      have hj1 : 1 ≤ j := (nI_leI (a := 1) (b := j) (by decide) (by omega)).mp h1
      exact ⟨j, hj1, hj, Or.inl ⟨h1, h7, rfl⟩⟩
    · exact ⟨7, by omega, by omega, Or.inr (Or.inl ⟨h1, h7, rfl⟩)⟩
  · exact ⟨1, by omega, by omega, Or.inr (Or.inr ⟨h1, rfl⟩)⟩
theorem zp_cl_b : ∀ m, m < 8 → zp_cl m ≤ 1000 := by decide +kernel
section
variable {re pa : Nat → Int32}
theorem zx_ini221 {post : SX → Prop} {fn : Int32} {bk wa : Nat → Int32} (K : ∀ pd' ba' : Nat → Int32, zx_P pd' → zx_B ba' → post (fn, bk, re, pa, wa, pd', ba')) :
    ∀ (N k : Nat) (pd ba : Nat → Int32), 1 ≤ k → k ≤ 8 → 8 - k < N → (∀ j, j < k → pd j = nI (zp_fa j)) → (∀ j, j < k → ba j = nI (zp_cl j)) → wX_init_221 post fn N (nI k) bk re pa wa pd ba := by
  intro N
  induction N with
  | zero => intro k pd ba _ _ hN; omega
  | succ N ih =>
    intro k pd ba h1 hk hN hP hB
    refine pk_le 8 k (fun z => ?_) (fun z => ?_)
    · have e1 : k = 8 := by omega
      subst e1
      exact K pd ba hP hB
    · obtain ⟨m, rfl⟩ : ∃ m, k = m + 1 := ⟨k - 1, by omega⟩
      have hc := zp_cl_b m (by omega)
      have e4 : 4 * nI (m + 1) - 2 = nI (4 * (m + 1) - 2) := by
        rw [show (4 : Int32) * nI (m + 1) = nI (4 * (m + 1)) from pk_mul 4 _]
        exact pk_sub (b := 2) (by omega)
      have h4 : zp_cl m * (4 * (m + 1) - 2) ≤ 1000 * 30 := Nat.mul_le_mul hc (by omega)
      rw [nI_pred, nI_clamp (by omega : m < 2 ^ 31), nI_clamp (by omega : m + 1 < 2 ^ 31), hP m (by omega), hB m (by omega), e4, pk_mul, pk_mul, nI_1 (m + 1), pk_div (by omega) (by omega) (by omega)]
      refine ⟨vp_in_nI (by omega) (by omega), vp_in_nI z (by omega), fun pd2 e2 => ⟨vp_in_nI (by omega) (by omega), nI_ne0 (by omega) (by omega), vp_in_nI z (by omega), fun ba2 e3 => nm_e ?_⟩⟩
      refine ih (m + 2) pd2 ba2 (by omega) (by omega) (by omega) (fun j hj => ?_) (fun j hj => ?_)
      · by_cases v : j = m + 1
        · rw [v, e2, pk_us]; rfl
        · rw [e2, pk_un v]; exact hP j (by omega)
      · by_cases v : j = m + 1
        · rw [v, e3, pk_us]; rfl
        · rw [e3, pk_un v]; exact hB j (by omega)
theorem zx_ini143 {post : SX → Prop} {J : Int32 → (Nat → Int32) → (Nat → Int32) → (Nat → Int32) → (Nat → Int32) → (Nat → Int32) → (Nat → Int32) → Prop} {fn : Int32} {bk pd ba : Nat → Int32} {p : Nat} (hp : p < 7)
    (K : ∀ wa' : Nat → Int32, (∀ m k, m < p + 2 → m + k < 8 → wa' (8 * m + k) = nI (zp_wm m k)) → J (nI (p + 2)) bk re pa wa' pd ba) :
    ∀ (N k : Nat) (wa : Nat → Int32), k + (p + 1) ≤ 8 → 8 - k < N → (∀ m k, m < p + 1 → m + k < 8 → wa (8 * m + k) = nI (zp_wm m k)) → (∀ j, j < k → wa (8 * (p + 1) + j) = nI (zp_wm (p + 1) j)) → wX_init_143 post J (nI (p + 1)) fn N (nI k) bk re pa wa pd ba := by
  intro N
  induction N with
  | zero => intro k wa _ hN; omega
  | succ N ih =>
    intro k wa hk hN hW hV
    refine pk_le 8 (k + (p + 1)) (fun z => ?_) (fun z => ?_) (hy := nI_add k (p + 1))
    · refine nm_r (nI_1 (p + 1)) ?_
      refine K wa (fun m j hm hj => ?_)
      rcases Nat.lt_or_ge m (p + 1) with w | w
      · exact hW m j w hj
      · have em : m = p + 1 := by omega
        subst em
        exact hV j (by omega)
    · rw [nI_pred, zb_8m, zb_8m, nI_add, nI_add, nI_1 (8 * p + k), nI_clamp (by omega : 8 * p + k < 2 ^ 31), nI_clamp (by omega : 8 * p + k + 1 < 2 ^ 31), nI_clamp (by omega : 8 * (p + 1) + k < 2 ^ 31), hW p k (by omega) (by omega), show 8 * p + k + 1 = 8 * p + (k + 1) by omega, hW p (k + 1) (by omega) (by omega), pk_mul, nI_add]
      refine ⟨vp_in_nI (by omega) (by omega), vp_in_nI (by omega) (by omega), vp_in_nI (by omega) (by omega), fun wa2 e2 => nm_r (nI_1 k) ?_⟩
      refine ih (k + 1) wa2 (by omega) (by omega) (fun m j hm hj => ?_) (fun j hj => ?_)
      · rw [e2, pk_un (by omega)]; exact hW m j hm hj
      · by_cases v : j = k
        · rw [v, e2, pk_us]; rfl
        · rw [e2, pk_un (by omega)]; exact hV j (by omega)
theorem zx_ini135 {post : SX → Prop} {fn : Int32} {bk pd ba : Nat → Int32} (K : ∀ wa' pd' ba' : Nat → Int32, zx_W wa' → zx_P pd' → zx_B ba' → post (fn, bk, re, pa, wa', pd', ba')) :
    ∀ (N p : Nat) (wa : Nat → Int32), p ≤ 7 → 7 - p < N → (∀ m k, m < p + 1 → m + k < 8 → wa (8 * m + k) = nI (zp_wm m k)) → wX_init_135 post fn N (nI (p + 1)) bk re pa wa pd ba := by
  intro N
  induction N with
  | zero => intro p wa _ hN; omega
  | succ N ih =>
    intro p wa hp hN hW
    refine pk_le 8 (p + 1) (fun z => ?_) (fun z => ?_)
    · refine nm_e (nm_e ⟨8, ?_⟩)
      refine zx_ini221 (fun pd' ba' hP hB => K wa pd' ba' (fun m k h => hW m k (by omega) h) hP hB) 8 1 _ _ (by omega) (by omega) (by omega) (fun j hj => ?_) (fun j hj => ?_)
      · have ej : j = 0 := by omega
        rw [ej, pk_us]; rfl
      · have ej : j = 0 := by omega
        rw [ej, pk_us]; rfl
    · refine ⟨9, zx_ini143 (p := p) (by omega) (fun wa' hW' => ?_) 9 0 wa (by omega) (by omega) hW (fun j hj => absurd hj (Nat.not_lt_zero j))⟩
      exact ih (p + 1) wa' (by omega) (by omega) hW'
theorem zx_ini114 {post : SX → Prop} {fn : Int32} {bk pd ba : Nat → Int32} (K : ∀ wa' pd' ba' : Nat → Int32, zx_W wa' → zx_P pd' → zx_B ba' → post (fn, bk, re, pa, wa', pd', ba')) :
    ∀ (N k : Nat) (wa : Nat → Int32), k ≤ 8 → 8 - k < N → (∀ j, j < k → wa j = nI 1) → wX_init_114 post fn N (nI k) bk re pa wa pd ba := by
  intro N
  induction N with
  | zero => intro k wa _ hN; omega
  | succ N ih =>
    intro k wa hk hN hW
    refine pk_le 8 k (fun z => ?_) (fun z => ?_)
    · refine ⟨8, zx_ini135 K 8 0 wa (by omega) (by omega) (fun m j hm hj => ?_)⟩
      have em : m = 0 := by omega
      subst em
      rw [show 8 * 0 + j = j by omega]
      exact hW j (by omega)
    · rw [nI_clamp (by omega : k < 2 ^ 31)]
      refine ⟨vp_in_nI (by omega) (by omega), fun wa2 e2 => nm_r (nI_1 k) ?_⟩
      refine ih (k + 1) wa2 (by omega) (by omega) (fun j hj => ?_)
      by_cases v : j = k
      · rw [v, e2, pk_us]; rfl
      · rw [e2, pk_un v]; exact hW j (by omega)
theorem zx_ini79 {post : SX → Prop} {n : Nat} {wa pd ba : Nat → Int32} (hn : n ≤ 7) (K : ∀ bk' wa' pd' ba' : Nat → Int32, zx_R bk' (7 * 0) n (fun j => j) → zx_R bk' (7 * 1) n (fun j => j) → zx_W wa' → zx_P pd' → zx_B ba' → post (nI n, bk', re, pa, wa', pd', ba')) :
    ∀ (N i : Nat) (bk : Nat → Int32), i ≤ n → n - i < N → zx_R bk (7 * 0) i (fun j => j) → zx_R bk (7 * 1) i (fun j => j) → wX_init_79 post (nI n) N (nI i) bk re pa wa pd ba := by
  intro N
  induction N with
  | zero => intro i bk _ hN; omega
  | succ N ih =>
    intro i bk hi hN R S
    refine pk_le n i (fun z => ?_) (fun z => ?_)
    · have e1 : i = n := by omega
      subst e1
      exact ⟨9, zx_ini114 (fun wa' pd' ba' => K bk wa' pd' ba' R S) 9 0 wa (by omega) (by omega) (fun j hj => absurd hj (Nat.not_lt_zero j))⟩
    · rw [zb_7a, nI_clamp (by omega : i < 2 ^ 31), nI_clamp (by omega : 7 + i < 2 ^ 31), zb_nb (by omega)]
      refine ⟨vp_in_nI (by omega) (by omega), fun b2 e2 => ⟨vp_in_nI (by omega) (by omega), fun b3 e3 => nm_r (nI_1 i) ?_⟩⟩
      refine ih (i + 1) b3 (by omega) (by omega) (fun j hj => ?_) (fun j hj => ?_)
      · by_cases v : j = i
        · rw [v, e3, pk_un (by omega), e2, show 7 * 0 + i = i by omega, pk_us]
        · rw [e3, pk_un (by omega), e2, pk_un (by omega)]; exact R j (by omega)
      · by_cases v : j = i
        · rw [v, e3, show 7 * 1 + i = 7 + i by omega, pk_us]
        · rw [e3, pk_un (by omega), e2, pk_un (by omega)]; exact S j (by omega)
end
theorem zx_init {post : SX → Prop} {n : Nat} {x : Int32} (hx : zb_cl x n) (hn : n ≤ 7) (K : ∀ bk' wa' pd' ba' : Nat → Int32, zx_R bk' (7 * 0) n (fun j => j) → zx_R bk' (7 * 1) n (fun j => j) → zx_W wa' → zx_P pd' → zx_B ba' → post (nI n, bk', (fun _ => 0), (fun _ => 0), wa', pd', ba')) : wpX_init post x := by
  have H : ∃ N, wX_init_79 post (nI n) N 0 (fun _ => 0) (fun _ => 0) (fun _ => 0) (fun _ => 0) (fun _ => 0) (fun _ => 0) := ⟨n + 1, zx_ini79 hn K (n + 1) 0 _ (by omega) (by omega) (fun j hj => absurd hj (Nat.not_lt_zero j)) (fun j hj => absurd hj (Nat.not_lt_zero j))⟩
  rcases hx with ⟨a, b, c⟩ | ⟨a, b, c⟩ | ⟨a, c⟩
  · subst c; exact br_t a (br_t b H)
  · subst c; exact br_t a (br_f b H)
  · subst c; exact br_f a H
end
section
/-! kernel: rank gives each its place back; the order of the list -/
def zk_rk (n : Nat) : List Nat → Nat → Bool
  | [], _ => true
  | r :: l, k => Nat.beq (zp_ra n (zp_dg (zk_c r)) n) k && zk_rk n l (k + 1)
theorem zk_rk_i {n : Nat} : ∀ {l : List Nat} {s : Nat}, zk_rk n l s = true → ∀ k r, l[k]? = some r → zp_ra n (zp_dg (zk_c r)) n = s + k := by
  intro l
  induction l with
  | nil => intro s _ k r h; exact absurd h (by simp)
  | cons a l ih =>
    intro s h k r hk
    simp only [zk_rk, Bool.and_eq_true, Nat.beq_eq] at h
    cases k with
    | zero =>
      have e : a = r := Option.some.inj hk
      rw [← e, h.1]; rfl
    | succ k =>
      have := ih h.2 k r hk
      omega
def zp_nw (n c i : Nat) : Nat := zp_en (fun j => cond (Nat.ble i j) (cond (Nat.beq j i) (zp_dg c j + 1) 0) (zp_dg c j)) n
def zp_ni (n c : Nat) : Nat → Option Nat
  | 0 => none
  | i + 1 => cond (Nat.ble (zp_dg c (i + 1)) (zp_mx (zp_dg c) (i + 1))) (some (zp_nw n c (i + 1))) (zp_ni n c i)
def zk_oe : Option Nat → Nat → Bool
  | none, _ => false
  | some a, b => Nat.beq a b
def zk_nn : Option Nat → Bool
  | none => true
  | some _ => false
def zk_nx (n : Nat) : List Nat → Nat → Bool
  | [], r => zk_nn (zp_ni n (zk_c r) (n - 1))
  | s :: l, r => zk_oe (zp_ni n (zk_c r) (n - 1)) (zk_c s) && zk_nx n l s
theorem zk_nx_i {n : Nat} : ∀ {l : List Nat} {a : Nat}, zk_nx n l a = true → ∀ k r, (a :: l)[k]? = some r → (∀ s, (a :: l)[k + 1]? = some s → zp_ni n (zk_c r) (n - 1) = some (zk_c s)) ∧ ((a :: l)[k + 1]? = none → zp_ni n (zk_c r) (n - 1) = none) := by
  intro l
  induction l with
  | nil =>
    intro a h k r hk
    cases k with
    | zero =>
      have e : a = r := Option.some.inj hk
      subst e
      refine ⟨fun s hs => absurd hs (by simp), fun _ => ?_⟩
      simp only [zk_nx] at h
      cases q : zp_ni n (zk_c a) (n - 1) with
      | none => rfl
      | some x => rw [q] at h; exact absurd h (by simp [zk_nn])
    | succ k => exact absurd hk (by simp)
  | cons b l ih =>
    intro a h k r hk
    simp only [zk_nx, Bool.and_eq_true] at h
    cases k with
    | zero =>
      have e : a = r := Option.some.inj hk
      subst e
      refine ⟨fun s hs => ?_, fun hs => absurd hs (by simp)⟩
      have e2 : b = s := Option.some.inj hs
      subst e2
      cases q : zp_ni n (zk_c a) (n - 1) with
      | none => rw [q] at h; exact absurd h.1 (by simp [zk_oe])
      | some x =>
        rw [q] at h
        simp only [zk_oe, Nat.beq_eq] at h
        rw [h.1]
    | succ k => exact ih h.2 k r hk
def zk_nxl (n : Nat) : List Nat → Bool
  | [] => false
  | a :: l => Nat.beq (zk_c a) 0 && zk_nx n l a
def zk_lst (n : Nat) (T : List Nat) : Bool := Nat.beq (zk_c (T.getD (T.length - 1) 0)) (zp_en (fun j => j) n)
theorem zk_r1 : zk_rk 1 zk_T1 0 = true := by decide +kernel
theorem zk_r2 : zk_rk 2 zk_T2 0 = true := by decide +kernel
theorem zk_r3 : zk_rk 3 zk_T3 0 = true := by decide +kernel
theorem zk_r4 : zk_rk 4 zk_T4 0 = true := by decide +kernel
theorem zk_r5 : zk_rk 5 zk_T5 0 = true := by decide +kernel
theorem zk_r6 : zk_rk 6 zk_T6 0 = true := by decide +kernel
theorem zk_r7 : zk_rk 7 zk_T7 0 = true := by decide +kernel
theorem zk_x1 : (zk_nxl 1 zk_T1 && zk_lst 1 zk_T1) = true := by decide +kernel
theorem zk_x2 : (zk_nxl 2 zk_T2 && zk_lst 2 zk_T2) = true := by decide +kernel
theorem zk_x3 : (zk_nxl 3 zk_T3 && zk_lst 3 zk_T3) = true := by decide +kernel
theorem zk_x4 : (zk_nxl 4 zk_T4 && zk_lst 4 zk_T4) = true := by decide +kernel
theorem zk_x5 : (zk_nxl 5 zk_T5 && zk_lst 5 zk_T5) = true := by decide +kernel
theorem zk_x6 : (zk_nxl 6 zk_T6 && zk_lst 6 zk_T6) = true := by decide +kernel
theorem zk_x7 : (zk_nxl 7 zk_T7 && zk_lst 7 zk_T7) = true := by decide +kernel
theorem zt_rank {n k : Nat} (a : 1 ≤ n) (b : n ≤ 7) (h : k < zt_N n) : zp_ra n (zp_dg (zt_c n k)) n = k := by
  have h1 := zk_7 (P := fun n T => zk_rk n T 0 = true) zk_r1 zk_r2 zk_r3 zk_r4 zk_r5 zk_r6 zk_r7 a b
  have h2 := zk_rk_i h1 k _ (zt_get h)
  rw [Nat.zero_add] at h2
  exact h2
theorem zt_inj {n k j : Nat} (a : 1 ≤ n) (b : n ≤ 7) (h : k < zt_N n) (h2 : j < zt_N n) (e : zt_c n k = zt_c n j) : k = j := by
  rw [← zt_rank a b h, ← zt_rank a b h2, e]
theorem zt_pinj {n k j : Nat} (a : 1 ≤ n) (b : n ≤ 7) (h : k < zt_N n) (h2 : j < zt_N n) (e : zt_p n k = zt_p n j) : k = j := zt_inj a b h h2 (zt_pu a b h h2 e)
theorem zt_chain {n : Nat} (a : 1 ≤ n) (b : n ≤ 7) : zt_c n 0 = 0 ∧ zt_c n (zt_N n - 1) = zp_en (fun j => j) n ∧ ∀ k, k < zt_N n → (k + 1 < zt_N n → zp_ni n (zt_c n k) (n - 1) = some (zt_c n (k + 1))) ∧ (k + 1 = zt_N n → zp_ni n (zt_c n k) (n - 1) = none) := by
  have h1 := zk_7 (P := fun n T => (zk_nxl n T && zk_lst n T) = true) zk_x1 zk_x2 zk_x3 zk_x4 zk_x5 zk_x6 zk_x7 a b
  rw [Bool.and_eq_true] at h1
  obtain ⟨h1, h0⟩ := h1
  refine ⟨?_, Nat.eq_of_beq_eq_true h0, ?_⟩
  · unfold zt_c zt_r
    cases q : zk_T n with
    | nil => rw [q] at h1; exact absurd h1 (by simp [zk_nxl])
    | cons x l =>
      rw [q] at h1
      simp only [zk_nxl, Bool.and_eq_true, Nat.beq_eq] at h1
      exact h1.1
  · intro k hk
    have h2 := zt_get hk
    have h3 : k + 1 < zt_N n → (zk_T n)[k + 1]? = some (zt_r n (k + 1)) := fun z => zt_get z
    have h4 : k + 1 = zt_N n → (zk_T n)[k + 1]? = none := fun z => List.getElem?_eq_none (by rw [z]; exact Nat.le_refl _)
    unfold zt_c
    cases q : zk_T n with
    | nil => rw [q] at h1; exact absurd h1 (by simp [zk_nxl])
    | cons x l =>
      rw [q] at h1 h2 h3 h4
      simp only [zk_nxl, Bool.and_eq_true, Nat.beq_eq] at h1
      have h5 := zk_nx_i h1.2 k _ h2
      exact ⟨fun z => h5.1 _ (h3 z), fun z => h5.2 (h4 z)⟩
theorem zt_nb {n k : Nat} (a : 1 ≤ n) (b : n ≤ 7) (h : k < zt_N n) : 1 ≤ zt_n n k ∧ zt_n n k ≤ 7 := by
  have h1 := (zt_all a b h).2.1
  have h2 := zp_mx_lt (by omega : 0 < 7) n (zt_rg a b h)
  omega
theorem zt_pb (n k : Nat) : zt_p n k < 2097152 := Nat.mod_lt _ (by decide)
theorem zt_xb {n k : Nat} (a : 1 ≤ n) (b : n ≤ 7) (h : k < zt_N n) : zt_x n k = 0 ∨ zt_x n k = 1 := by
  rw [(zt_all a b h).2.2]
  split
  · exact Or.inr rfl
  · exact Or.inl rfl
/-! the reference's tables, as far as m -/
def zy_T (n m : Nat) (co pr ct cx : Nat → Int32) : Prop := ∀ k, k < m → co k = nI (zt_c n k) ∧ pr k = nI (zt_p n k) ∧ ct k = nI (zt_n n k) ∧ cx k = nI (zt_x n k)
def zy_R (ro : Nat → Int32) (n : Nat) (g : Nat → Nat) : Prop := ∀ j, j < n → ro j = nI (g j)
theorem zy_R_c {a : Nat → Int32} {n : Nat} {f g : Nat → Nat} (h : ∀ j, j < n → f j = g j) (R : zy_R a n f) : zy_R a n g := fun j hj => by rw [← h j hj]; exact R j hj
/-! together -/
def zp_E (g : Nat → Nat) (p : Nat × Nat) : Bool := Nat.beq (g p.1) (g p.2)
theorem zp_tgE (n : Nat) (g : Nat → Nat) : zp_tg n g = zp_bs ((zp_pl n n).map (zp_E g)) := rfl
def zp_pj (n i d : Nat) : List (Nat × Nat) := zp_pl n i ++ (List.range d).map (fun d => (i, i + 1 + d))
theorem zp_pj_0 (n i : Nat) : zp_pj n i 0 = zp_pl n i := List.append_nil _
theorem zp_pj_s (n i d : Nat) : zp_pj n i (d + 1) = zp_pj n i d ++ [(i, i + 1 + d)] := by
  unfold zp_pj
  rw [List.range_succ, List.map_append, ← List.append_assoc]
  rfl
theorem zp_pj_l (n i d : Nat) : (zp_pj n i d).length = (zp_pl n i).length + d := by
  unfold zp_pj
  rw [List.length_append, List.length_map, List.length_range]
theorem zp_pj_e (n i : Nat) : zp_pj n i (n - 1 - i) = zp_pl n (i + 1) := by
  unfold zp_pj zp_pl
  rw [List.range_succ, List.flatMap_append, List.flatMap_singleton]
theorem zb_bit {s b : Nat} (hs : s < 2 ^ b) (hb : b < 30) : nI s ||| ((1 : Int32) <<< (nI b &&& 31)) = nI (s + 2 ^ b) := by
  have h1 : 2 ^ b ≤ 2 ^ 30 := Nat.pow_le_pow_right (by decide) (by omega)
  have e1 : (1 : Int32) <<< (nI b &&& 31) = nI (2 ^ b) := by
    show nI 1 <<< (nI b &&& 31) = _
    rw [pk_shlN _ b (s_l b (by omega)) (by omega), Nat.one_mul]
  have e := Nat.two_pow_add_eq_or_of_lt (i := b) (b := s) hs 1
  rw [Nat.mul_one] at e
  rw [e1, zb_or, Nat.or_comm, ← e, Nat.add_comm]
section
variable {n : Nat} {fm : Int32} {co pr ct cx fo el ro ot nu tw : Nat → Int32}
theorem zy_tog19 {post : Int32 → Prop} {J : Int32 → Int32 → Int32 → Prop} {g : Nat → Nat} {i : Nat} (hn : n ≤ 7) (hi : i < n) (R : zy_R ro n g) (hg : ∀ i, i < n → g i < 2 ^ 31) (K : J (nI (zp_bs ((zp_pl n (i + 1)).map (zp_E g)))) (nI (zp_pl n (i + 1)).length) (nI (i + 1))) :
    ∀ (N d : Nat), d ≤ n - 1 - i → n - 1 - i - d < N → wY_together_19 post J (nI i) (nI n) fm co pr ct cx fo el ro ot nu tw N (nI (zp_bs ((zp_pj n i d).map (zp_E g)))) (nI (zp_pj n i d).length) (nI (i + 1 + d)) := by
  intro N
  induction N with
  | zero => intro d _ hN; omega
  | succ N ih =>
    intro d hd hN
    have hl := zp_pl_len n hn i hi
    refine pk_le n (i + 1 + d) (fun z => ?_) (fun z => ?_)
    · have e1 : d = n - 1 - i := by omega
      subst e1
      rw [zp_pj_e]
      exact nm_r (nI_1 i) K
    · have st := ih (d + 1) (by omega) (by omega)
      have hlt := zp_bs_lt ((zp_pj n i d).map (zp_E g))
      rw [zp_pj_s, List.map_append, List.map_singleton, zp_bs_app, List.length_append, List.length_singleton, List.length_map] at st
      rw [List.length_map] at hlt
      have hl2 : (zp_pj n i d).length < 30 := by rw [zp_pj_l]; omega
      rw [nI_clamp (by omega : i < 2 ^ 31), nI_clamp (by omega : i + 1 + d < 2 ^ 31), R i hi, R (i + 1 + d) z]
      refine ⟨vp_in_nI (by omega) (by omega), vp_in_nI (by omega) (by omega), pk_eq (g i) (g (i + 1 + d)) (fun q => ?_) (fun q => ?_) (ha := hg _ hi) (hb := hg _ z)⟩
      · have eE : zp_E g (i, i + 1 + d) = true := by
          show Nat.beq (g i) (g (i + 1 + d)) = true
          rw [q, Nat.beq_refl]
        rw [eE] at st
        exact nm_r (zb_bit hlt hl2) (nm_r (nI_1 _) (nm_r (nI_1 _) st))
      · have eE : zp_E g (i, i + 1 + d) = false := zb_bq q
        rw [eE] at st
        exact nm_r (nI_1 _) (nm_r (nI_1 _) st)
theorem zy_tog6 {post : Int32 → Prop} {g : Nat → Nat} (hn : n ≤ 7) (R : zy_R ro n g) (hg : ∀ i, i < n → g i < 2 ^ 31) (K : post (nI (zp_tg n g))) :
    ∀ (N i : Nat), i ≤ n → n - i < N → wY_together_6 post (nI n) fm co pr ct cx fo el ro ot nu tw N (nI (zp_bs ((zp_pl n i).map (zp_E g)))) (nI (zp_pl n i).length) (nI i) := by
  intro N
  induction N with
  | zero => intro i _ hN; omega
  | succ N ih =>
    intro i hi hN
    refine pk_le n i (fun z => ?_) (fun z => ?_)
    · have e1 : i = n := by omega
      subst e1
      exact K
    · refine nm_r (nI_1 i) ⟨n + 1, ?_⟩
      have h := zy_tog19 (post := post) (fm := fm) (co := co) (pr := pr) (ct := ct) (cx := cx) (fo := fo) (el := el) (ot := ot) (nu := nu) (tw := tw) hn z R hg (ih (i + 1) (by omega) (by omega)) (n + 1) 0 (by omega) (by omega)
      rw [zp_pj_0] at h
      exact h
theorem zy_tog {post : Int32 → Prop} {g : Nat → Nat} (hn : n ≤ 7) (R : zy_R ro n g) (hg : ∀ i, i < n → g i < 2 ^ 31) (K : post (nI (zp_tg n g))) : wpY_together post (nI n, fm, co, pr, ct, cx, fo, el, ro, ot, nu, tw) :=
  ⟨n + 1, zy_tog6 hn R hg K (n + 1) 0 (by omega) (by omega)⟩
/-! keep -/
theorem zy_keep7 {post : Int32 → SY → Prop} {e k : Nat} (h1 : 1 ≤ n) (hn : n ≤ 7) (he : e < 2) (hk : k < zt_N n) (T : zy_T n (zt_N n) co pr ct cx) (K : post (nI (zt_n n k)) (nI n, nI (zt_N n), co, pr, ct, cx, fo, upd el e (nI k), ro, ot, nu, tw)) :
    ∀ (N j : Nat), j ≤ zt_N n → zt_N n - j < N → wY_keep_7 post (nI e) (nI (zt_p n k)) (nI n) (nI (zt_N n)) N (nI j) co pr ct cx fo (if k < j then upd el e (nI k) else el) ro ot nu tw := by
  have hN7 := zt_N_le h1 hn
  intro N
  induction N with
  | zero => intro j _ hN; omega
  | succ N ih =>
    intro j hj hN
    refine pk_le (zt_N n) j (fun z => ?_) (fun z => ?_)
    · rw [if_pos (by omega), nI_clamp (by omega : e < 2 ^ 31), pk_us, nI_clamp (by omega : k < 2 ^ 31), (T k hk).2.2.1]
      exact ⟨vp_in_nI he (by omega), vp_in_nI (by omega) (by omega), K⟩
    · have st := ih (j + 1) (by omega) (by omega)
      have hp1 := zt_pb n j
      have hp2 := zt_pb n k
      rw [nI_clamp (by omega : j < 2 ^ 31), (T j z).2.1]
      refine ⟨vp_in_nI (by omega) (by omega), pk_eq (zt_p n j) (zt_p n k) (fun q => ?_) (fun q => ?_)⟩
      · have e1 : j = k := zt_pinj h1 hn z hk q
        subst e1
        rw [if_pos (by omega)] at st
        rw [if_neg (by omega), nI_clamp (by omega : e < 2 ^ 31)]
        exact ⟨vp_in_nI he (by omega), nm_e (nm_r (nI_1 j) st)⟩
      · have e1 : j ≠ k := fun w => q (by rw [w])
        by_cases w : k < j
        · rw [if_pos (by omega)] at st
          rw [if_pos w]
          exact nm_r (nI_1 j) st
        · rw [if_neg (by omega)] at st
          rw [if_neg w]
          exact nm_r (nI_1 j) st
theorem zy_keep {post : Int32 → SY → Prop} {e k : Nat} {g : Nat → Nat} (h1 : 1 ≤ n) (hn : n ≤ 7) (he : e < 2) (hk : k < zt_N n) (T : zy_T n (zt_N n) co pr ct cx) (R : zy_R ro n g) (hg : ∀ i, i < n → g i < 2 ^ 31) (hp : zt_p n k = zp_tg n g) (K : post (nI (zt_n n k)) (nI n, nI (zt_N n), co, pr, ct, cx, fo, upd el e (nI k), ro, ot, nu, tw)) : wpY_keep post (nI n, nI (zt_N n), co, pr, ct, cx, fo, el, ro, ot, nu, tw) (nI e) := by
  unfold wpY_keep
  try dsimp only
  refine zy_tog hn R hg ?_
  rw [← hp]
  have h := zy_keep7 h1 hn he hk T K (zt_N n + 1) 0 (by omega) (by omega)
  rw [if_neg (by omega)] at h
  exact ⟨zt_N n + 1, h⟩
/-! take -/
theorem zb_d8 {k : Nat} (h : k < 2 ^ 31) : nI k / 8 = nI (k / 8) := pk_div (d := 8) h (by decide) (by decide)
theorem zb_r8 {k : Nat} (h : k < 2 ^ 31) : nI k - nI k / 8 * 8 = nI (k % 8) := pk_rem (d := 8) h (by decide) (by decide)
theorem zb_80 : ¬ (8 : Int32) = 0 := by decide
theorem zy_tak9 {post : SY → Prop} {c : Nat} (hn : n ≤ 7) (hc : c < 2 ^ 31) (K : ∀ ro' : Nat → Int32, zy_R ro' n (zp_dg c) → post (nI n, fm, co, pr, ct, cx, fo, el, ro', ot, nu, tw)) :
    ∀ (N i : Nat) (ro : Nat → Int32), i ≤ n → n - i < N → zy_R ro i (zp_dg c) → wY_take_9 post (nI n) fm N (nI (c / 8 ^ i)) (nI i) co pr ct cx fo el ro ot nu tw := by
  intro N
  induction N with
  | zero => intro i ro _ hN; omega
  | succ N ih =>
    intro i ro hi hN R
    refine pk_le n i (fun z => ?_) (fun z => ?_)
    · have e1 : i = n := by omega
      subst e1
      exact K ro R
    · have hd : c / 8 ^ i ≤ c := Nat.div_le_self _ _
      rw [zb_r8 (by omega), zb_d8 (by omega), nI_clamp (by omega : i < 2 ^ 31)]
      refine ⟨zb_80, vp_in_nI (by omega) (by omega), fun r2 e2 => ⟨zb_80, nm_e (nm_r (nI_1 i) ?_)⟩⟩
      rw [Nat.div_div_eq_div_mul, ← Nat.pow_succ]
      refine ih (i + 1) r2 (by omega) (by omega) (fun j hj => ?_)
      by_cases v : j = i
      · rw [v, e2, pk_us]; rfl
      · rw [e2, pk_un v]; exact R j (by omega)
theorem zy_take {post : SY → Prop} {k : Nat} (h1 : 1 ≤ n) (hn : n ≤ 7) (hk : k < zt_N n) (T : zy_T n (zt_N n) co pr ct cx) (K : ∀ ro' : Nat → Int32, zy_R ro' n (zp_dg (zt_c n k)) → post (nI n, fm, co, pr, ct, cx, fo, el, ro', ot, nu, tw)) : wpY_take post (nI n, fm, co, pr, ct, cx, fo, el, ro, ot, nu, tw) (nI k) := by
  have hN7 := zt_N_le h1 hn
  have hc := zt_c21 n k
  show vp_in (nI k) 877 ∧ _
  rw [nI_clamp (by omega : k < 2 ^ 31), (T k hk).1]
  refine ⟨vp_in_nI (by omega) (by omega), nm_e ⟨n + 1, ?_⟩⟩
  have h := zy_tak9 hn (by omega) K (n + 1) 0 ro (by omega) (by omega) (fun j hj => absurd hj (Nat.not_lt_zero j))
  rw [Nat.pow_zero, Nat.div_one] at h
  exact h
/-! bad, noPoint -/
theorem zy_bE0 {post : Int32 → Prop} {u : SY} {e : Nat} (he : e < 2) (h : post 0) : wpY_bad post u (nI e) := br_f (nI_pos (by omega)) (br_t (zb_e1 he) h)
theorem zy_bP0 {post : Int32 → Prop} {i : Nat} (hn : n ≤ 7) (hi : i < n) (h : post 0) : wpY_noPoint post (nI n, fm, co, pr, ct, cx, fo, el, ro, ot, nu, tw) (nI i) := br_f (nI_pos (by omega)) (br_t (nI_lt hi (by omega)) h)
theorem zy_bE1 {post : Int32 → Prop} {u : SY} {x : Int32} (hx : x < 0 ∨ (¬ x < 0 ∧ ¬ x ≤ 1)) (h : post 1) : wpY_bad post u x := by
  rcases hx with a | ⟨a, b⟩
  · exact br_t a h
  · exact br_f a (br_f b h)
theorem zy_bP1 {post : Int32 → Prop} {x : Int32} (hx : x < 0 ∨ (¬ x < 0 ∧ ¬ x < nI n)) (h : post 1) : wpY_noPoint post (nI n, fm, co, pr, ct, cx, fo, el, ro, ot, nu, tw) x := by
  rcases hx with a | ⟨a, b⟩
  · exact br_t a h
  · exact br_f a (br_f b h)
end
end
section
section
variable {n : Nat} {fm : Int32} {co pr ct cx fo el ro ot nu tw : Nat → Int32}
/-! split, crossing -/
def zp_sp (m : Nat) (t : Nat → Nat) (i k : Nat) : Prop := ∃ j l, i < j ∧ j < k ∧ k < l ∧ l < m ∧ t j = t l ∧ t j ≠ t i
theorem zy_spl16 {post : Int32 → Prop} {J : Int32 → Prop} {m i k j : Nat} {t : Nat → Nat} (hm : m ≤ 14) (R : zy_R tw m t) (ht : ∀ i, i < m → t i < 2 ^ 31) (hij : i < j) (hjk : j < k) (hkm : k < m) (K1 : zp_sp m t i k → post 1) (K0 : (∀ l, k < l → l < m → ¬ (t j = t l ∧ t j ≠ t i)) → J (nI (j + 1))) :
    ∀ (N l : Nat), k < l → l ≤ m → m - l < N → (∀ l', k < l' → l' < l → ¬ (t j = t l' ∧ t j ≠ t i)) → wY_split_16 post J (nI i) (nI k) (nI m) (nI j) (nI n) fm co pr ct cx fo el ro ot nu tw N (nI l) := by
  intro N
  induction N with
  | zero => intro l _ _ hN; omega
  | succ N ih =>
    intro l hl hlm hN A
    refine pk_le m l (fun z => ?_) (fun z => ?_)
    · refine nm_r (nI_1 j) (K0 (fun l' a b => A l' a (by omega)))
    · have nx : ¬ (t j = t l ∧ t j ≠ t i) → wY_split_16 post J (nI i) (nI k) (nI m) (nI j) (nI n) fm co pr ct cx fo el ro ot nu tw N (nI (l + 1)) := by
        intro q
        refine ih (l + 1) (by omega) (by omega) (by omega) (fun l' a b => ?_)
        by_cases v : l' = l
        · rw [v]; exact q
        · exact A l' a (by omega)
      rw [nI_clamp (by omega : j < 2 ^ 31), nI_clamp (by omega : l < 2 ^ 31), nI_clamp (by omega : i < 2 ^ 31), R j (by omega), R l z, R i (by omega)]
      refine ⟨vp_in_nI (by omega) (by omega), vp_in_nI (by omega) (by omega), pk_eq (t j) (t l) (fun q => ?_) (fun q => ?_) (ha := ht _ (by omega)) (hb := ht _ z)⟩
      · refine ⟨vp_in_nI (by omega) (by omega), vp_in_nI (by omega) (by omega), pk_eq (t j) (t i) (fun w => ?_) (fun w => ?_) (ha := ht _ (by omega)) (hb := ht _ (by omega))⟩
        · exact nm_r (nI_1 l) (nx (fun v => v.2 w))
        · exact K1 ⟨j, l, hij, hjk, hl, z, q, w⟩
      · exact nm_r (nI_1 l) (nx (fun v => q v.1))
theorem zy_spl5 {post : Int32 → Prop} {m i k : Nat} {t : Nat → Nat} (hm : m ≤ 14) (R : zy_R tw m t) (ht : ∀ i, i < m → t i < 2 ^ 31) (hkm : k < m) (K1 : zp_sp m t i k → post 1) (K0 : ¬ zp_sp m t i k → post 0) :
    ∀ (N j : Nat), i < j → j ≤ k → k - j < N → (∀ j', i < j' → j' < j → ∀ l, k < l → l < m → ¬ (t j' = t l ∧ t j' ≠ t i)) → wY_split_5 post (nI i) (nI k) (nI m) (nI n) fm co pr ct cx fo el ro ot nu tw N (nI j) := by
  intro N
  induction N with
  | zero => intro j _ _ hN; omega
  | succ N ih =>
    intro j hj hjk hN A
    refine pk_le k j (fun z => ?_) (fun z => ?_)
    · refine K0 (fun ⟨a, l, h1, h2, h3, h4, h5, h6⟩ => ?_)
      exact A a h1 (by omega) l h3 h4 ⟨h5, h6⟩
    · refine nm_r (nI_1 k) ⟨m + 1, ?_⟩
      refine zy_spl16 hm R ht hj z hkm K1 (fun B => ?_) (m + 1) (k + 1) (by omega) (by omega) (by omega) (fun l' a b => by omega)
      refine ih (j + 1) (by omega) (by omega) (by omega) (fun j' a b => ?_)
      by_cases v : j' = j
      · rw [v]; exact B
      · exact A j' a (by omega)
theorem zy_spl {post : Int32 → Prop} {m i k : Nat} {t : Nat → Nat} (hm : m ≤ 14) (R : zy_R tw m t) (ht : ∀ i, i < m → t i < 2 ^ 31) (hik : i < k) (hkm : k < m) (K1 : zp_sp m t i k → post 1) (K0 : ¬ zp_sp m t i k → post 0) : wpY_split post (nI n, fm, co, pr, ct, cx, fo, el, ro, ot, nu, tw) (nI i) (nI k) (nI m) :=
  nm_r (nI_1 i) ⟨k + 1, zy_spl5 hm R ht hkm K1 K0 (k + 1) (i + 1) (by omega) (by omega) (by omega) (fun j' a b => by omega)⟩
theorem zy_crs53 {post : Int32 → SY → Prop} {J : Int32 → Prop} {m i : Nat} {t : Nat → Nat} (hm : m ≤ 14) (R : zy_R tw m t) (ht : ∀ i, i < m → t i < 2 ^ 31) (him : i < m) (K1 : zp_ca m t → post 1 (nI n, fm, co, pr, ct, cx, fo, el, ro, ot, nu, tw)) (K0 : (∀ k, i + 2 ≤ k → k < m → ¬ (t i = t k ∧ zp_sp m t i k)) → J (nI (i + 1))) :
    ∀ (N k : Nat), i + 2 ≤ k → k ≤ m + 1 → m + 1 - k < N → (∀ k', i + 2 ≤ k' → k' < k → k' < m → ¬ (t i = t k' ∧ zp_sp m t i k')) → wY_crossing_53 post J (nI m) (nI i) (nI n) fm co pr ct cx fo el ro ot nu tw N (nI k) := by
  intro N
  induction N with
  | zero => intro k _ _ hN; omega
  | succ N ih =>
    intro k hk hkm hN A
    by_cases z : m ≤ k
    · refine br_t (nI_le z (by omega)) ?_
      exact nm_r (nI_1 i) (K0 (fun k' a b => A k' a (by omega) b))
    · have z : k < m := by omega
      refine br_f (nI_ge z (by omega)) ?_
      have nx : ¬ (t i = t k ∧ zp_sp m t i k) → wY_crossing_53 post J (nI m) (nI i) (nI n) fm co pr ct cx fo el ro ot nu tw N (nI (k + 1)) := by
        intro q
        refine ih (k + 1) (by omega) (by omega) (by omega) (fun k' a b c => ?_)
        by_cases v : k' = k
        · rw [v]; exact q
        · exact A k' a (by omega) c
      rw [nI_clamp (by omega : i < 2 ^ 31), nI_clamp (by omega : k < 2 ^ 31), R i him, R k z]
      refine ⟨vp_in_nI (by omega) (by omega), vp_in_nI (by omega) (by omega), pk_eq (t i) (t k) (fun q => ?_) (fun q => ?_) (ha := ht _ him) (hb := ht _ z)⟩
      · refine zy_spl hm R ht (by omega) z (fun w => ?_) (fun w => ?_)
        · refine br_f zb_10 (K1 ?_)
          obtain ⟨j, l, h1, h2, h3, h4, h5, h6⟩ := w
          exact ⟨i, j, k, l, h1, h2, h3, h4, q, h5, h6⟩
        · exact br_t rfl (nm_r (nI_1 k) (nx (fun v => w v.2)))
      · exact nm_r (nI_1 k) (nx (fun v => q v.1))
theorem zy_crs44 {post : Int32 → SY → Prop} {m : Nat} {t : Nat → Nat} (hm : m ≤ 14) (R : zy_R tw m t) (ht : ∀ i, i < m → t i < 2 ^ 31) (K1 : zp_ca m t → post 1 (nI n, fm, co, pr, ct, cx, fo, el, ro, ot, nu, tw)) (K0 : ¬ zp_ca m t → post 0 (nI n, fm, co, pr, ct, cx, fo, el, ro, ot, nu, tw)) :
    ∀ (N i : Nat), i ≤ m → m - i < N → (∀ i', i' < i → ∀ k, i' + 2 ≤ k → k < m → ¬ (t i' = t k ∧ zp_sp m t i' k)) → wY_crossing_44 post (nI m) (nI n) fm co pr ct cx fo el ro ot nu tw N (nI i) := by
  intro N
  induction N with
  | zero => intro i _ hN; omega
  | succ N ih =>
    intro i hi hN A
    refine pk_le m i (fun z => ?_) (fun z => ?_)
    · refine K0 (fun ⟨a, j, k, l, h1, h2, h3, h4, h5, h6, h7⟩ => ?_)
      exact A a (by omega) k (by omega) (by omega) ⟨h5, j, l, h1, h2, h3, h4, h6, h7⟩
    · refine nm_r (nI_add i 2) ⟨m + 2, ?_⟩
      refine zy_crs53 hm R ht z K1 (fun B => ?_) (m + 2) (i + 2) (by omega) (by omega) (by omega) (fun k' a b => by omega)
      refine ih (i + 1) (by omega) (by omega) (fun i' hi' => ?_)
      by_cases v : i' = i
      · rw [v]; exact B
      · exact A i' (by omega)
/-- the crossing of what is laid into 'twice' -/
theorem zy_crs2 {post : Int32 → SY → Prop} {m : Nat} {t : Nat → Nat} {x : Int32} (hn : n ≤ 7) (hm : m ≤ 14) (hx : x = nI m) (hr : (m = n ∧ zy_R ro m t) ∨ (m ≠ n ∧ zy_R nu m t)) (ht : ∀ i, i < m → t i < 2 ^ 31) (K : ∀ tw' : Nat → Int32, post (zb_b (zp_cb m t)) (nI n, fm, co, pr, ct, cx, fo, el, ro, ot, nu, tw')) :
    ∀ (N i : Nat) (tw : Nat → Int32), i ≤ m → m - i < N → zy_R tw i t → wY_crossing_2 post x (nI n) fm N (nI i) co pr ct cx fo el ro ot nu tw := by
  subst hx
  intro N
  induction N with
  | zero => intro i tw _ hN; omega
  | succ N ih =>
    intro i tw hi hN R
    refine pk_le m i (fun z => ?_) (fun z => ?_)
    · have e1 : i = m := by omega
      subst e1
      have k := K tw
      refine ⟨i + 1, zy_crs44 hm R ht (fun w => ?_) (fun w => ?_) (i + 1) 0 (by omega) (by omega) (fun a ha => absurd ha (Nat.not_lt_zero a))⟩
      · rw [zp_cb_iff.mpr w] at k; exact k
      · have hf : zp_cb i t = false := by
          cases q : zp_cb i t
          · rfl
          · exact absurd (zp_cb_iff.mp q) w
        rw [hf] at k; exact k
    · have up : ∀ tw2 : Nat → Int32, tw2 = upd tw i (nI (t i)) → wY_crossing_2 post (nI m) (nI n) fm N (nI (i + 1)) co pr ct cx fo el ro ot nu tw2 := by
        intro tw2 e2
        refine ih (i + 1) tw2 (by omega) (by omega) (fun j hj => ?_)
        by_cases v : j = i
        · rw [v, e2, pk_us]
        · rw [e2, pk_un v]; exact R j (by omega)
      rcases hr with ⟨q, r⟩ | ⟨q, r⟩
      · refine pk_eq m n (fun _ => ?_) (fun w => absurd q w)
        rw [nI_clamp (by omega : i < 2 ^ 31), r i z]
        refine ⟨vp_in_nI (by omega) (by omega), vp_in_nI (by omega) (by omega), fun tw2 e2 => nm_r (nI_1 i) (up tw2 e2)⟩
      · refine pk_eq m n (fun w => absurd w q) (fun _ => ?_)
        rw [nI_clamp (by omega : i < 2 ^ 31), r i z]
        refine ⟨vp_in_nI (by omega) (by omega), vp_in_nI (by omega) (by omega), fun tw2 e2 => nm_r (nI_1 i) (up tw2 e2)⟩
theorem zy_crs {post : Int32 → SY → Prop} {m : Nat} {t : Nat → Nat} {x : Int32} (hn : n ≤ 7) (hm : m ≤ 14) (hx : x = nI m) (hr : (m = n ∧ zy_R ro m t) ∨ (m ≠ n ∧ zy_R nu m t)) (ht : ∀ i, i < m → t i < 2 ^ 31) (K : ∀ tw' : Nat → Int32, post (zb_b (zp_cb m t)) (nI n, fm, co, pr, ct, cx, fo, el, ro, ot, nu, tw')) : wpY_crossing post (nI n, fm, co, pr, ct, cx, fo, el, ro, ot, nu, tw) x :=
  ⟨m + 1, zy_crs2 hn hm hx hr ht K (m + 1) 0 tw (by omega) (by omega) (fun j hj => absurd hj (Nat.not_lt_zero j))⟩
/-! note -/
theorem zp_mm1 {a b M X : Nat} (h : (if (if b ≤ a then a else b) ≤ M then M else (if b ≤ a then a else b)) = X) (q : b ≤ M) : (if a ≤ M then M else a) = X := by
  by_cases c1 : b ≤ a
  · rw [if_pos c1] at h; exact h
  · rw [if_neg c1, if_pos q] at h
    rw [if_pos (by omega)]; exact h
theorem zp_mm2 {a b M X : Nat} (h : (if (if b ≤ a then a else b) ≤ M then M else (if b ≤ a then a else b)) = X) (q : M < b) : (if a ≤ b then b else a) = X := by
  by_cases c1 : b ≤ a
  · rw [if_pos c1, if_neg (by omega)] at h
    split <;> omega
  · rw [if_neg c1, if_neg (by omega)] at h
    rw [if_pos (by omega)]; exact h
theorem zy_not11 {post : SY → Prop} {k : Nat} (h1 : 1 ≤ n) (hn : n ≤ 7) (hk : k < zt_N n) (T : zy_T n k co pr ct cx) (R : zy_R ro n (zp_dg (zt_c n k)))
    (K : ∀ co' pr' ct' cx' tw' : Nat → Int32, zy_T n (k + 1) co' pr' ct' cx' → post (nI n, nI (k + 1), co', pr', ct', cx', fo, el, ro, ot, nu, tw')) :
    ∀ (i N v M : Nat), i ≤ n → i < N → v * 8 ^ i + zp_en (zp_dg (zt_c n k)) i = zt_c n k → (if zp_mx (zp_dg (zt_c n k)) i ≤ M then M else zp_mx (zp_dg (zt_c n k)) i) = zp_mx (zp_dg (zt_c n k)) n → M < 8 → wY_note_11 post (nI n) (nI k) co pr ct cx fo el ro ot nu tw N (nI v) (nI M) (zb_d i) := by
  have hN7 := zt_N_le h1 hn
  intro i
  induction i with
  | zero =>
    intro N v M _ hN hv hM hM8
    obtain ⟨N', rfl⟩ : ∃ N', N = N' + 1 := ⟨N - 1, by omega⟩
    have ev : v = zt_c n k := by
      rw [← hv]
      show v = v * 8 ^ 0 + 0
      rw [Nat.pow_zero, Nat.mul_one, Nat.add_zero]
    rw [show zp_mx (zp_dg (zt_c n k)) 0 = 0 from rfl, if_pos (Nat.zero_le M)] at hM
    obtain ⟨t1, t2, t3⟩ := zt_all h1 hn hk
    refine br_t zb_d_0 ?_
    rw [nI_clamp (by omega : k < 2 ^ 31), nI_1 M]
    refine And.intro (vp_in_nI (by omega) (by omega)) (nm_e (And.intro (vp_in_nI (by omega) (by omega)) (nm_e ?_)))
    refine zy_tog hn R (fun i _ => by have := zp_dg_lt (zt_c n k) i; omega) ?_
    refine And.intro (vp_in_nI (by omega) (by omega)) (nm_e ?_)
    refine zy_crs (m := n) (t := zp_dg (zt_c n k)) hn (by omega) rfl (Or.inl ⟨rfl, R⟩) (fun i _ => by have := zp_dg_lt (zt_c n k) i; omega) (fun tw' => ?_)
    refine And.intro (vp_in_nI (by omega) (by omega)) (nm_e (nm_r (nI_1 k) ?_))
    refine K _ _ _ _ tw' (fun j hj => ?_)
    by_cases w : j = k
    · subst w
      rw [pk_us, pk_us, pk_us, pk_us, ev, t1, t2, t3, hM, zb_vnb]
      refine ⟨rfl, rfl, rfl, ?_⟩
      cases zp_cb n (zp_dg (zt_c n j)) <;> rfl
    · rw [pk_un w, pk_un w, pk_un w, pk_un w]
      exact T j (by omega)
  | succ i ih =>
    intro N v M hi hN hv hM hM8
    obtain ⟨N', rfl⟩ : ∃ N', N = N' + 1 := ⟨N - 1, by omega⟩
    have hd := zp_dg_lt (zt_c n k) i
    have st : ∀ M', (if zp_mx (zp_dg (zt_c n k)) i ≤ M' then M' else zp_mx (zp_dg (zt_c n k)) i) = zp_mx (zp_dg (zt_c n k)) n → M' < 8 → wY_note_11 post (nI n) (nI k) co pr ct cx fo el ro ot nu tw N' (nI (8 * v + zp_dg (zt_c n k) i)) (nI M') (zb_d i) := by
      intro M' hM' hM8'
      refine ih N' _ M' (by omega) (by omega) ?_ hM' hM8'
      have hv' : v * 8 ^ (i + 1) + (zp_en (zp_dg (zt_c n k)) i + zp_dg (zt_c n k) i * 8 ^ i) = zt_c n k := hv
      rw [Nat.pow_succ] at hv'
      rw [Nat.add_mul, Nat.mul_comm 8 v, Nat.mul_assoc, Nat.mul_comm 8 (8 ^ i)]
      omega
    refine br_f (nI_pos (n := i) (by omega)) ?_
    rw [show zb_d (i + 1) = nI i from rfl, nI_clamp (by omega : i < 2 ^ 31), R i (by omega), zb_8m, nI_add, show nI i + (-1) = zb_d i from zb_d_s i]
    refine And.intro (vp_in_nI (by omega) (by omega)) (nm_e (And.intro (vp_in_nI (by omega) (by omega)) ?_))
    rw [zp_mx_s] at hM
    refine pk_le (zp_dg (zt_c n k) i) M (fun q => ?_) (fun q => ?_)
    · exact nm_e (st M (zp_mm1 hM q) hM8)
    · exact And.intro (vp_in_nI (by omega) (by omega)) (nm_e (nm_e (st _ (zp_mm2 hM q) hd)))
theorem zy_note {post : SY → Prop} {k : Nat} (h1 : 1 ≤ n) (hn : n ≤ 7) (hk : k < zt_N n) (T : zy_T n k co pr ct cx) (R : zy_R ro n (zp_dg (zt_c n k)))
    (K : ∀ co' pr' ct' cx' tw' : Nat → Int32, zy_T n (k + 1) co' pr' ct' cx' → post (nI n, nI (k + 1), co', pr', ct', cx', fo, el, ro, ot, nu, tw')) : wpY_note post (nI n, nI k, co, pr, ct, cx, fo, el, ro, ot, nu, tw) := by
  refine nm_r (zb_d_1 h1) ⟨n + 1, ?_⟩
  refine zy_not11 h1 hn hk T R K n (n + 1) 0 0 (by omega) (by omega) ?_ ?_ (by omega)
  · rw [Nat.zero_mul, Nat.zero_add, zp_en_dg, Nat.mod_eq_of_lt (zt_lt h1 hn hk).1]
  · split <;> omega
/-! nextRow -/
theorem zy_nxt71 {post : Int32 → SY → Prop} {g : Nat → Nat} {i : Nat} (hn : n ≤ 7) (K : ∀ ro' : Nat → Int32, zy_R ro' n (fun j => if j ≤ i then g j else 0) → post 1 (nI n, fm, co, pr, ct, cx, fo, el, ro', ot, nu, tw)) :
    ∀ (N j : Nat) (ro : Nat → Int32), i < j → j ≤ n → n - j < N → zy_R ro j (fun j => if j ≤ i then g j else 0) → wY_nextRow_71 post (nI n) fm N (nI j) co pr ct cx fo el ro ot nu tw := by
  intro N
  induction N with
  | zero => intro j ro _ _ hN; omega
  | succ N ih =>
    intro j ro hij hj hN R
    refine pk_le n j (fun z => ?_) (fun z => ?_)
    · have e1 : j = n := by omega
      subst e1
      exact K ro R
    · rw [nI_clamp (by omega : j < 2 ^ 31)]
      refine ⟨vp_in_nI (by omega) (by omega), fun r2 e2 => nm_r (nI_1 j) ?_⟩
      refine ih (j + 1) r2 (by omega) (by omega) (by omega) (fun x hx => ?_)
      show r2 x = nI (if x ≤ i then g x else 0)
      by_cases v : x = j
      · rw [v, e2, pk_us, if_neg (by omega)]; rfl
      · rw [e2, pk_un v]; exact R x (by omega)
theorem zy_nxt15 {post : Int32 → SY → Prop} {J : Int32 → Prop} {f : Nat → Nat} {i : Nat} (hn : n ≤ 7) (h1 : 1 ≤ i) (hi : i < n) (R : zy_R ro n f) (hf : ∀ i, i < n → f i < 8) (K0 : zp_mx f i < f i → J (nI (i - 1))) (K1 : f i ≤ zp_mx f i → ∀ ro' : Nat → Int32, zy_R ro' n (fun j => if j ≤ i then zp_st f i (f i + 1) j else 0) → post 1 (nI n, fm, co, pr, ct, cx, fo, el, ro', ot, nu, tw)) :
    ∀ (N j : Nat), j ≤ i → i - j < N → wY_nextRow_15 post J (nI i) (nI n) fm co pr ct cx fo el ro ot nu tw N (nI (zp_mx f j)) (nI j) := by
  intro N
  induction N with
  | zero => intro j _ hN; omega
  | succ N ih =>
    intro j hj hN
    have hm : zp_mx f j < 8 := zp_mx_lt (by omega) j (fun x hx => hf x (by omega))
    have hfi := hf i hi
    refine pk_le i j (fun z => ?_) (fun z => ?_)
    · have e1 : j = i := by omega
      subst e1
      rw [nI_clamp (by omega : j < 2 ^ 31), R j hi]
      refine ⟨vp_in_nI (by omega) (by omega), pk_lt (zp_mx f j) (f j) (fun q => ?_) (fun q => ?_)⟩
      · exact nm_r (zb_m1 h1) (K0 q)
      · rw [nI_1 (f j)]
        refine And.intro (vp_in_nI (by omega) (by omega)) (And.intro (vp_in_nI (by omega) (by omega)) (fun r2 e2 => nm_r (nI_1 j) ⟨n + 1, ?_⟩))
        refine zy_nxt71 (i := j) (g := zp_st f j (f j + 1)) hn (K1 q) (n + 1) (j + 1) r2 (by omega) (by omega) (by omega) (fun x hx => ?_)
        show r2 x = nI (if x ≤ j then zp_st f j (f j + 1) x else 0)
        by_cases v : x = j
        · rw [v, e2, pk_us, if_pos (Nat.le_refl j), zp_st_s]
        · rw [e2, pk_un v, if_pos (by omega), zp_st_n v]; exact R x (by omega)
    · have st := ih (j + 1) (by omega) (by omega)
      have hfj := hf j (by omega)
      rw [zp_mx_s] at st
      rw [nI_clamp (by omega : j < 2 ^ 31), R j (by omega)]
      refine ⟨vp_in_nI (by omega) (by omega), pk_le (f j) (zp_mx f j) (fun q => ?_) (fun q => ?_)⟩
      · rw [if_pos q] at st
        exact nm_r (nI_1 j) st
      · rw [if_neg (by omega)] at st
        exact And.intro (vp_in_nI (by omega) (by omega)) (nm_e (nm_r (nI_1 j) st))
theorem zp_nw_d {c i : Nat} (hd : ∀ j, j < n → zp_dg c j < 7) : ∀ j, j < n → (if j ≤ i then zp_st (zp_dg c) i (zp_dg c i + 1) j else 0) = zp_dg (zp_nw n c i) j := by
  intro j hj
  unfold zp_nw
  rw [zp_dg_en n (fun x hx => ?_) j hj]
  · rcases Nat.lt_trichotomy j i with z | z | z
    · have hb : Nat.ble i j = false := by
        cases y : Nat.ble i j
        · rfl
        · have := Nat.le_of_ble_eq_true y; omega
      rw [if_pos (by omega), zp_st_n (by omega), hb]; rfl
    · rw [z, if_pos (Nat.le_refl i), zp_st_s, Nat.beq_refl, Nat.ble_eq_true_of_le (Nat.le_refl i)]; rfl
    · rw [if_neg (by omega), Nat.ble_eq_true_of_le (by omega), zb_bq (by omega)]; rfl
  · have h1 := hd x hx
    cases Nat.ble i x
    · show zp_dg c x < 8; omega
    · cases Nat.beq x i
      · show 0 < 8; omega
      · show zp_dg c x + 1 < 8; omega
theorem zy_nxt7 {post : Int32 → SY → Prop} {c : Nat} (hn : n ≤ 7) (R : zy_R ro n (zp_dg c)) (hd : ∀ j, j < n → zp_dg c j < 7) :
    ∀ (i N : Nat), i < n → i < N → (zp_ni n c i = none → post 0 (nI n, fm, co, pr, ct, cx, fo, el, ro, ot, nu, tw)) → (∀ c', zp_ni n c i = some c' → ∀ ro' : Nat → Int32, zy_R ro' n (zp_dg c') → post 1 (nI n, fm, co, pr, ct, cx, fo, el, ro', ot, nu, tw)) → wY_nextRow_7 post (nI n) fm co pr ct cx fo el ro ot nu tw N (nI i) := by
  intro i
  induction i with
  | zero =>
    intro N _ hN K0 K1
    obtain ⟨N', rfl⟩ : ∃ N', N = N' + 1 := ⟨N - 1, by omega⟩
    exact br_t (Int32.le_refl 0) (K0 rfl)
  | succ i ih =>
    intro N hi hN K0 K1
    obtain ⟨N', rfl⟩ : ∃ N', N = N' + 1 := ⟨N - 1, by omega⟩
    rw [show zp_ni n c (i + 1) = cond (Nat.ble (zp_dg c (i + 1)) (zp_mx (zp_dg c) (i + 1))) (some (zp_nw n c (i + 1))) (zp_ni n c i) from rfl] at K0 K1
    refine br_f (nI_nle (by omega) (by omega)) ⟨n + 1, ?_⟩
    refine zy_nxt15 hn (by omega) hi R (fun j _ => zp_dg_lt c j) (fun q => ?_) (fun q ro' R' => ?_) (n + 1) 0 (by omega) (by omega)
    · have hb : Nat.ble (zp_dg c (i + 1)) (zp_mx (zp_dg c) (i + 1)) = false := by
        cases y : Nat.ble (zp_dg c (i + 1)) (zp_mx (zp_dg c) (i + 1))
        · rfl
        · have := Nat.le_of_ble_eq_true y; omega
      rw [hb] at K0 K1
      exact ih N' (by omega) (by omega) K0 K1
    · rw [Nat.ble_eq_true_of_le q] at K1
      exact K1 _ rfl ro' (zy_R_c (zp_nw_d hd) R')
theorem zy_nxt {post : Int32 → SY → Prop} {c : Nat} (h1 : 1 ≤ n) (hn : n ≤ 7) (R : zy_R ro n (zp_dg c)) (hd : ∀ j, j < n → zp_dg c j < 7) (K0 : zp_ni n c (n - 1) = none → post 0 (nI n, fm, co, pr, ct, cx, fo, el, ro, ot, nu, tw)) (K1 : ∀ c', zp_ni n c (n - 1) = some c' → ∀ ro' : Nat → Int32, zy_R ro' n (zp_dg c') → post 1 (nI n, fm, co, pr, ct, cx, fo, el, ro', ot, nu, tw)) : wpY_nextRow post (nI n, fm, co, pr, ct, cx, fo, el, ro, ot, nu, tw) :=
  nm_r (zb_s1 h1) ⟨n, zy_nxt7 hn R hd (n - 1) n (by omega) (by omega) K0 K1⟩
/-! the reference's constructor -/
theorem zy_ini138 {post : SY → Prop} (h1 : 1 ≤ n) (hn : n ≤ 7)
    (K : ∀ co pr ct cx el ro tw : Nat → Int32, zy_T n (zt_N n) co pr ct cx → el 0 = nI (zt_N n - 1) → el 1 = nI (zt_N n - 1) → post (nI n, nI (zt_N n), co, pr, ct, cx, fo, el, ro, ot, nu, tw)) :
    ∀ (N k : Nat) (co pr ct cx ro tw : Nat → Int32), k < zt_N n → zt_N n + 1 - k < N → zy_T n k co pr ct cx → zy_R ro n (zp_dg (zt_c n k)) → wY_init_138 post N 1 (nI n) (nI k) co pr ct cx fo el ro ot nu tw := by
  have hN7 := zt_N_le h1 hn
  obtain ⟨_, _, hch⟩ := zt_chain h1 hn
  intro N
  induction N with
  | zero => intro k co pr ct cx ro tw _ hN; omega
  | succ N ih =>
    intro k co pr ct cx ro tw hk hN T R
    refine br_f zb_10 ?_
    refine zy_note h1 hn hk T R (fun co' pr' ct' cx' tw' T' => ?_)
    refine zy_nxt h1 hn R (zt_rg h1 hn hk) (fun q => ?_) (fun c' q ro' R' => ?_)
    · have hk1 : k + 1 = zt_N n := by
        rcases Nat.lt_or_ge (k + 1) (zt_N n) with z | z
        · rw [(hch k hk).1 z] at q; exact absurd q (by simp)
        · omega
      rw [hk1] at T' ⊢
      obtain ⟨N', rfl⟩ : ∃ N', N = N' + 1 := ⟨N - 1, by omega⟩
      refine br_t rfl (nm_e (nm_e ?_))
      rw [zb_s1 (by omega)]
      exact K co' pr' ct' cx' _ ro tw' T' (by rw [pk_un (by decide), pk_us]) pk_us
    · have hk1 : k + 1 < zt_N n := by
        rcases Nat.lt_or_ge (k + 1) (zt_N n) with z | z
        · exact z
        · rw [(hch k hk).2 (by omega)] at q; exact absurd q (by simp)
      have e1 : zt_c n (k + 1) = c' := Option.some.inj (((hch k hk).1 hk1).symm.trans q)
      rw [← e1] at R'
      exact ih (k + 1) co' pr' ct' cx' ro' tw' hk1 (by omega) T' R'
theorem zy_ini115 {post : SY → Prop} (h1 : 1 ≤ n) (hn : n ≤ 7)
    (K : ∀ co pr ct cx el ro tw : Nat → Int32, zy_T n (zt_N n) co pr ct cx → el 0 = nI (zt_N n - 1) → el 1 = nI (zt_N n - 1) → post (nI n, nI (zt_N n), co, pr, ct, cx, fo, el, ro, ot, nu, tw)) :
    ∀ (N i : Nat) (ro : Nat → Int32), i ≤ n → n - i < N → zy_R ro i (fun _ => 0) → wY_init_115 post (nI n) 0 N (nI i) co pr ct cx fo el ro ot nu tw := by
  have hN7 := zt_N_le h1 hn
  intro N
  induction N with
  | zero => intro i ro _ hN; omega
  | succ N ih =>
    intro i ro hi hN R
    refine pk_le n i (fun z => ?_) (fun z => ?_)
    · have e1 : i = n := by omega
      subst e1
      refine ⟨zt_N i + 2, zy_ini138 h1 hn K (zt_N i + 2) 0 co pr ct cx ro tw (by omega) (by omega) (fun k hk => absurd hk (Nat.not_lt_zero k)) (zy_R_c (fun j hj => ?_) R)⟩
      rw [(zt_chain h1 hn).1]
      show 0 = 0 / 8 ^ j % 8
      rw [Nat.zero_div]
    · rw [nI_clamp (by omega : i < 2 ^ 31)]
      refine ⟨vp_in_nI (by omega) (by omega), fun r2 e2 => nm_r (nI_1 i) ?_⟩
      refine ih (i + 1) r2 (by omega) (by omega) (fun x hx => ?_)
      by_cases v : x = i
      · rw [v, e2, pk_us]; rfl
      · rw [e2, pk_un v]; exact R x (by omega)
end
theorem zy_init {post : SY → Prop} {n : Nat} {x : Int32} (hx : zb_cl x n) (h1 : 1 ≤ n) (hn : n ≤ 7)
    (K : ∀ co pr ct cx fo el ro ot nu tw : Nat → Int32, zy_T n (zt_N n) co pr ct cx → el 0 = nI (zt_N n - 1) → el 1 = nI (zt_N n - 1) → post (nI n, nI (zt_N n), co, pr, ct, cx, fo, el, ro, ot, nu, tw)) : wpY_init post x := by
  have H : ∃ N, wY_init_115 post (nI n) 0 N 0 (fun _ => 0) (fun _ => 0) (fun _ => 0) (fun _ => 0) (fun _ => 0) (fun _ => 0) (fun _ => 0) (fun _ => 0) (fun _ => 0) (fun _ => 0) := ⟨n + 1, zy_ini115 h1 hn (fun co pr ct cx el ro tw => K co pr ct cx _ el ro _ _ tw) (n + 1) 0 _ (by omega) (by omega) (fun j hj => absurd hj (Nat.not_lt_zero j))⟩
  rcases hx with ⟨a, b, c⟩ | ⟨a, b, c⟩ | ⟨a, c⟩
  · subst c; exact br_t a (br_t b H)
  · subst c; exact br_t a (br_f b H)
  · subst c; exact br_f a H
end
section
/-! two ways to unite, one pattern -/
def zp_jv (f : Nat → Nat) (i j : Nat) : Nat → Nat := fun x => if f x = f i then f j else f x
theorem zp_ptu {n : Nat} {F G : Nat → Nat} {i j : Nat} (P : zp_pt n F G) (hi : i < n) (hj : j < n) : zp_pt n (zp_ju F i j) (zp_jv G i j) := by
  intro x y hx hy
  have h1 := P x j hx hj
  have h2 := P y j hy hj
  have h3 := P x i hx hi
  have h4 := P y i hy hi
  have h5 := P x y hx hy
  have h6 := P i j hi hj
  unfold zp_ju zp_jv
  generalize F x = a at *
  generalize F y = b at *
  generalize F i = c at *
  generalize F j = d at *
  generalize G x = a' at *
  generalize G y = b' at *
  generalize G i = c' at *
  generalize G j = d' at *
  split <;> split <;> split <;> split <;> omega
def zp_jy (n : Nat) (g f : Nat → Nat) : Nat → Nat → Nat
  | 0 => f
  | k + 1 => if g (k / n) = g (k % n) then zp_jv (zp_jy n g f k) (k / n) (k % n) else zp_jy n g f k
theorem zp_jy_s (n : Nat) (g f : Nat → Nat) (k : Nat) : zp_jy n g f (k + 1) = if g (k / n) = g (k % n) then zp_jv (zp_jy n g f k) (k / n) (k % n) else zp_jy n g f k := rfl
theorem zp_jxy (n : Nat) (g f : Nat → Nat) : ∀ k, k ≤ n * n → zp_pt n (zp_jx n g f k) (zp_jy n g f k) := by
  intro k
  induction k with
  | zero => intro _ a b _ _; exact Iff.rfl
  | succ k ih =>
    intro hk
    have hd := zp_dm (n := n) (k := k) (by omega)
    rw [zp_jx_s, zp_jy_s]
    split
    · exact zp_ptu (ih (by omega)) hd.1 hd.2
    · exact ih (by omega)
theorem zp_jy_lt {n : Nat} {g f : Nat → Nat} {b : Nat} (hf : ∀ x, x < n → f x < b) : ∀ k, k ≤ n * n → ∀ x, x < n → zp_jy n g f k x < b := by
  intro k
  induction k with
  | zero => intro _ x hx; exact hf x hx
  | succ k ih =>
    intro hk x hx
    have hd := zp_dm (n := n) (k := k) (by omega)
    have ih := ih (by omega)
    rw [zp_jy_s]
    split
    · unfold zp_jv
      split
      · exact ih _ hd.2
      · exact ih x hx
    · exact ih x hx
section
variable {n : Nat} {fm : Int32} {co pr ct cx fo el ro ot nu tw : Nat → Int32}
/-! put -/
theorem zy_put13 {post : Int32 → SY → Prop} {e : Nat} {y : Int32} (h1 : 1 ≤ n) (hn : n ≤ 7) (he : e < 2) (T : zy_T n (zt_N n) co pr ct cx) (K1 : ∀ k, k < zt_N n → y = nI (zt_c n k) → post (nI (zt_n n k)) (nI n, nI (zt_N n), co, pr, ct, cx, fo, upd el e (nI k), ro, ot, nu, tw)) (K2 : (∀ k, k < zt_N n → y ≠ nI (zt_c n k)) → post (-1000000) (nI n, nI (zt_N n), co, pr, ct, cx, fo, el, ro, ot, nu, tw)) :
    ∀ (N k : Nat), k ≤ zt_N n → zt_N n - k < N → (∀ j, j < k → y ≠ nI (zt_c n j)) → wY_put_13 post (nI e) y (nI n) (nI (zt_N n)) co pr ct cx fo el ro ot nu tw N (nI k) := by
  have hN7 := zt_N_le h1 hn
  intro N
  induction N with
  | zero => intro k _ hN; omega
  | succ N ih =>
    intro k hk hN A
    refine pk_le (zt_N n) k (fun z => ?_) (fun z => ?_)
    · exact K2 (fun j hj => A j (by omega))
    · rw [nI_clamp (by omega : k < 2 ^ 31), (T k z).1, (T k z).2.2.1, nI_clamp (by omega : e < 2 ^ 31)]
      refine ⟨vp_in_nI (by omega) (by omega), br_c (fun q => ?_) (fun q => ?_)⟩
      · exact ⟨vp_in_nI he (by omega), nm_e ⟨vp_in_nI (by omega) (by omega), K1 k z q.symm⟩⟩
      · refine nm_r (nI_1 k) (ih (k + 1) (by omega) (by omega) (fun j hj => ?_))
        by_cases v : j = k
        · rw [v]; exact fun w => q w.symm
        · exact A j (by omega)
theorem zy_put {post : Int32 → SY → Prop} {e : Nat} {y : Int32} (h1 : 1 ≤ n) (hn : n ≤ 7) (he : e < 2) (T : zy_T n (zt_N n) co pr ct cx) (K1 : ∀ k, k < zt_N n → y = nI (zt_c n k) → post (nI (zt_n n k)) (nI n, nI (zt_N n), co, pr, ct, cx, fo, upd el e (nI k), ro, ot, nu, tw)) (K2 : (∀ k, k < zt_N n → y ≠ nI (zt_c n k)) → post (-1000000) (nI n, nI (zt_N n), co, pr, ct, cx, fo, el, ro, ot, nu, tw)) : wpY_put post (nI n, nI (zt_N n), co, pr, ct, cx, fo, el, ro, ot, nu, tw) (nI e) y := by
  unfold wpY_put
  try dsimp only
  refine zy_bE0 he ?_
  exact br_t rfl ⟨zt_N n + 1, zy_put13 h1 hn he T K1 K2 (zt_N n + 1) 0 (by omega) (by omega) (fun j hj => absurd hj (Nat.not_lt_zero j))⟩
/-! unite -/
theorem zy_uni2 {post : SY → Prop} {g : Nat → Nat} {a b : Nat} (hn : n ≤ 7) (hg : ∀ i, i < n → g i < 2 ^ 31) (ha : a < 2 ^ 31) (K : ∀ ro' : Nat → Int32, zy_R ro' n (fun x => if g x = a then b else g x) → post (nI n, fm, co, pr, ct, cx, fo, el, ro', ot, nu, tw)) :
    ∀ (N i : Nat) (ro : Nat → Int32), i ≤ n → n - i < N → zy_R ro i (fun x => if g x = a then b else g x) → (∀ j, i ≤ j → j < n → ro j = nI (g j)) → wY_unite_2 post (nI a) (nI b) (nI n) fm N (nI i) co pr ct cx fo el ro ot nu tw := by
  intro N
  induction N with
  | zero => intro i ro _ hN; omega
  | succ N ih =>
    intro i ro hi hN R F
    refine pk_le n i (fun z => ?_) (fun z => ?_)
    · have e1 : i = n := by omega
      subst e1
      exact K ro R
    · rw [nI_clamp (by omega : i < 2 ^ 31), F i (Nat.le_refl i) z]
      refine ⟨vp_in_nI (by omega) (by omega), pk_eq (g i) a (fun q => ?_) (fun q => ?_) (ha := hg i z) (hb := ha)⟩
      · refine ⟨vp_in_nI (by omega) (by omega), fun r2 e2 => nm_r (nI_1 i) ?_⟩
        refine ih (i + 1) r2 (by omega) (by omega) (fun x hx => ?_) (fun x h1 h2 => ?_)
        · show r2 x = nI (if g x = a then b else g x)
          by_cases v : x = i
          · rw [v, e2, pk_us, if_pos q]
          · rw [e2, pk_un v]; exact R x (by omega)
        · rw [e2, pk_un (by omega)]; exact F x (by omega) h2
      · refine nm_r (nI_1 i) ?_
        refine ih (i + 1) ro (by omega) (by omega) (fun x hx => ?_) (fun x h1 h2 => F x (by omega) h2)
        show ro x = nI (if g x = a then b else g x)
        by_cases v : x = i
        · rw [v, F i (Nat.le_refl i) z, if_neg q]
        · exact R x (by omega)
theorem zy_uni {post : SY → Prop} {g : Nat → Nat} {a b : Nat} (hn : n ≤ 7) (R : zy_R ro n g) (hg : ∀ i, i < n → g i < 2 ^ 31) (ha : a < 2 ^ 31) (K : ∀ ro' : Nat → Int32, zy_R ro' n (fun x => if g x = a then b else g x) → post (nI n, fm, co, pr, ct, cx, fo, el, ro', ot, nu, tw)) : wpY_unite post (nI n, fm, co, pr, ct, cx, fo, el, ro, ot, nu, tw) (nI a) (nI b) :=
  ⟨n + 1, zy_uni2 hn hg ha K (n + 1) 0 ro (by omega) (by omega) (fun j hj => absurd hj (Nat.not_lt_zero j)) (fun j _ hj => R j hj)⟩
/-! merge, move, turn -/
theorem zy_merge {post : Int32 → SY → Prop} {e i j k0 k : Nat} (h1 : 1 ≤ n) (hn : n ≤ 7) (he : e < 2) (hi : i < n) (hj : j < n) (T : zy_T n (zt_N n) co pr ct cx) (hk0 : k0 < zt_N n) (hel : el e = nI k0) (hk : k < zt_N n) (hp : zt_p n k = zp_tg n (zp_jv (zp_dg (zt_c n k0)) i j)) (K : ∀ ro' : Nat → Int32, post (nI (zt_n n k)) (nI n, nI (zt_N n), co, pr, ct, cx, fo, upd el e (nI k), ro', ot, nu, tw)) : wpY_merge post (nI n, nI (zt_N n), co, pr, ct, cx, fo, el, ro, ot, nu, tw) (nI e) (nI i) (nI j) := by
  unfold wpY_merge
  try dsimp only
  refine zy_bE0 he ?_
  refine br_t rfl ?_
  refine zy_bP0 hn hi ?_
  refine br_t rfl ?_
  refine zy_bP0 hn hj ?_
  refine br_t rfl ?_
  rw [nI_clamp (by omega : e < 2 ^ 31), nI_clamp (by omega : i < 2 ^ 31), nI_clamp (by omega : j < 2 ^ 31), hel]
  refine And.intro (vp_in_nI he (by omega)) ?_
  have hd := fun i => zp_dg_lt (zt_c n k0) i
  refine zy_take h1 hn hk0 T (fun ro' R => ?_)
  refine And.intro (vp_in_nI (by omega) (by omega)) (And.intro (vp_in_nI (by omega) (by omega)) ?_)
  dsimp only
  rw [R i hi, R j hj]
  refine zy_uni hn R (fun i _ => by have := hd i; omega) (by have := hd i; omega) (fun ro2 R2 => ?_)
  refine zy_keep h1 hn he hk T R2 (fun x _ => ?_) hp (K ro2)
  have := hd x
  have := hd j
  show (if zp_dg (zt_c n k0) x = zp_dg (zt_c n k0) i then zp_dg (zt_c n k0) j else zp_dg (zt_c n k0) x) < 2 ^ 31
  split <;> omega
theorem zy_move58 {post : Int32 → SY → Prop} {e i v k : Nat} {f : Nat → Nat} (h1 : 1 ≤ n) (hn : n ≤ 7) (he : e < 2) (hi : i < n) (T : zy_T n (zt_N n) co pr ct cx) (R : zy_R ro n f) (hf : ∀ i, i < n → f i < 2 ^ 31) (hv : v < 2 ^ 31) (hk : k < zt_N n) (hp : zt_p n k = zp_tg n (zp_st f i v)) (K : ∀ ro' : Nat → Int32, post (nI (zt_n n k)) (nI n, nI (zt_N n), co, pr, ct, cx, fo, upd el e (nI k), ro', ot, nu, tw)) : wY_move_58 post (nI e) (nI v) (nI i) (nI n) (nI (zt_N n)) co pr ct cx fo el ro ot nu tw := by
  unfold wY_move_58
  rw [nI_clamp (by omega : i < 2 ^ 31)]
  refine ⟨vp_in_nI (by omega) (by omega), nm_e ?_⟩
  refine zy_keep (g := zp_st f i v) h1 hn he hk T (fun x hx => ?_) (fun x hx => ?_) hp (K _)
  · by_cases w : x = i
    · rw [w, pk_us, zp_st_s]
    · rw [pk_un w, zp_st_n w]; exact R x hx
  · by_cases w : x = i
    · rw [w, zp_st_s]; exact hv
    · rw [zp_st_n w]; exact hf x hx
theorem zy_move {post : Int32 → SY → Prop} {e i j k0 k : Nat} (h1 : 1 ≤ n) (hn : n ≤ 7) (he : e < 2) (hi : i < n) (hj : j < n) (T : zy_T n (zt_N n) co pr ct cx) (hk0 : k0 < zt_N n) (hel : el e = nI k0) (hk : k < zt_N n) (hp : zt_p n k = zp_tg n (zp_st (zp_dg (zt_c n k0)) i (if i = j then 7 else zp_dg (zt_c n k0) j))) (K : ∀ ro' : Nat → Int32, post (nI (zt_n n k)) (nI n, nI (zt_N n), co, pr, ct, cx, fo, upd el e (nI k), ro', ot, nu, tw)) : wpY_move post (nI n, nI (zt_N n), co, pr, ct, cx, fo, el, ro, ot, nu, tw) (nI e) (nI i) (nI j) := by
  unfold wpY_move
  try dsimp only
  refine zy_bE0 he ?_
  refine br_t rfl ?_
  refine zy_bP0 hn hi ?_
  refine br_t rfl ?_
  refine zy_bP0 hn hj ?_
  refine br_t rfl ?_
  rw [nI_clamp (by omega : e < 2 ^ 31), nI_clamp (by omega : j < 2 ^ 31), hel]
  refine And.intro (vp_in_nI he (by omega)) ?_
  have hd := fun i => zp_dg_lt (zt_c n k0) i
  refine zy_take h1 hn hk0 T (fun ro' R => ?_)
  refine pk_eq i j (fun q => ?_) (fun q => ?_)
  · rw [if_pos q] at hp
    exact zy_move58 (v := 7) h1 hn he hi T R (fun i _ => by have := hd i; omega) (by omega) hk hp K
  · rw [if_neg q] at hp
    refine And.intro (vp_in_nI (by omega) (by omega)) ?_
    dsimp only
    rw [R j hj]
    exact zy_move58 h1 hn he hi T R (fun i _ => by have := hd i; omega) (by have := hd j; omega) hk hp K
theorem zy_turn40 {post : Int32 → SY → Prop} {f : Nat → Nat} {l e k : Nat} (h1 : 1 ≤ n) (hn : n ≤ 7) (he : e < 2) (T : zy_T n (zt_N n) co pr ct cx) (hf : ∀ i, i < n → f i < 2 ^ 31) (hl : l < 2 ^ 31) (hk : k < zt_N n) (hp : zt_p n k = zp_tg n (fun x => if x = 0 then l else f (x - 1))) (K : ∀ ro' : Nat → Int32, post (nI (zt_n n k)) (nI n, nI (zt_N n), co, pr, ct, cx, fo, upd el e (nI k), ro', ot, nu, tw)) :
    ∀ (i N : Nat) (ro : Nat → Int32), i < n → i < N → (∀ j, j ≤ i → ro j = nI (f j)) → (∀ j, i < j → j < n → ro j = nI (f (j - 1))) → wY_turn_40 post (nI e) (nI l) (nI n) (nI (zt_N n)) N (nI i) co pr ct cx fo el ro ot nu tw := by
  intro i
  induction i with
  | zero =>
    intro N ro _ hN A B
    obtain ⟨M, rfl⟩ : ∃ M, N = M + 1 := ⟨N - 1, by omega⟩
    refine br_t (Int32.le_refl 0) (nm_e ?_)
    refine zy_keep (g := fun x => if x = 0 then l else f (x - 1)) h1 hn he hk T (fun j hj => ?_) (fun j hj => ?_) hp (K _)
    · show upd ro 0 (nI l) j = nI (if j = 0 then l else f (j - 1))
      by_cases q : j = 0
      · rw [q, pk_us, if_pos rfl]
      · rw [pk_un q, if_neg q]; exact B j (by omega) hj
    · show (if j = 0 then l else f (j - 1)) < 2 ^ 31
      split
      · exact hl
      · exact hf _ (by omega)
  | succ i ih =>
    intro N ro hi hN A B
    obtain ⟨M, rfl⟩ : ∃ M, N = M + 1 := ⟨N - 1, by omega⟩
    refine br_f (nI_nle (by omega) (by omega)) ?_
    rw [nI_pred, nI_clamp (by omega : i < 2 ^ 31), nI_clamp (by omega : i + 1 < 2 ^ 31), A i (by omega), pk_m1]
    refine ⟨vp_in_nI (by omega) (by omega), vp_in_nI (by omega) (by omega), fun r2 e2 => nm_e ?_⟩
    refine ih M r2 (by omega) (by omega) (fun j hj => ?_) (fun j hj hj2 => ?_)
    · rw [e2, pk_un (by omega)]; exact A j (by omega)
    · by_cases q : j = i + 1
      · rw [q, e2, pk_us]; rfl
      · rw [e2, pk_un q]; exact B j (by omega) hj2
theorem zy_turn {post : Int32 → SY → Prop} {e k0 k : Nat} (h1 : 1 ≤ n) (hn : n ≤ 7) (he : e < 2) (T : zy_T n (zt_N n) co pr ct cx) (hk0 : k0 < zt_N n) (hel : el e = nI k0) (hk : k < zt_N n) (hp : zt_p n k = zp_tg n (fun x => if x = 0 then zp_dg (zt_c n k0) (n - 1) else zp_dg (zt_c n k0) (x - 1))) (K : ∀ ro' : Nat → Int32, post (nI (zt_n n k)) (nI n, nI (zt_N n), co, pr, ct, cx, fo, upd el e (nI k), ro', ot, nu, tw)) : wpY_turn post (nI n, nI (zt_N n), co, pr, ct, cx, fo, el, ro, ot, nu, tw) (nI e) := by
  unfold wpY_turn
  try dsimp only
  refine zy_bE0 he ?_
  refine br_t rfl ?_
  rw [nI_clamp (by omega : e < 2 ^ 31), hel]
  refine And.intro (vp_in_nI he (by omega)) ?_
  have hd := fun i => zp_dg_lt (zt_c n k0) i
  refine zy_take h1 hn hk0 T (fun ro' R => ?_)
  show vp_in (nI n - 1) 7 ∧ _
  dsimp only
  rw [zb_s1 h1, nI_clamp (by omega : n - 1 < 2 ^ 31), R (n - 1) (by omega)]
  refine ⟨vp_in_nI (by omega) (by omega), nm_e (nm_e ⟨n, ?_⟩)⟩
  exact zy_turn40 h1 hn he T (fun i _ => by have := hd i; omega) (by have := hd (n - 1); omega) hk hp K (n - 1) n ro' (by omega) (by omega) (fun j hj => R j (by omega)) (fun j h2 h3 => by omega)
/-! meet -/
theorem zy_meet50 {post : Int32 → SY → Prop} {f0 f1 : Nat → Nat} {k : Nat} (h1 : 1 ≤ n) (hn : n ≤ 7) (T : zy_T n (zt_N n) co pr ct cx) (H0 : ∀ i, i < n → f0 i < 8) (H1 : ∀ i, i < n → f1 i < 8) (Q : zy_R ot n f1) (hk : k < zt_N n) (hp : zt_p n k = zp_tg n (fun x => 8 * f0 x + f1 x)) (K : ∀ ro' : Nat → Int32, post (nI (zt_n n k)) (nI n, nI (zt_N n), co, pr, ct, cx, fo, upd el 0 (nI k), ro', ot, nu, tw)) :
    ∀ (N i : Nat) (ro : Nat → Int32), i ≤ n → n - i < N → zy_R ro i (fun x => 8 * f0 x + f1 x) → (∀ j, i ≤ j → j < n → ro j = nI (f0 j)) → wY_meet_50 post (nI n) (nI (zt_N n)) N (nI i) co pr ct cx fo el ro ot nu tw := by
  intro N
  induction N with
  | zero => intro i ro _ hN; omega
  | succ N ih =>
    intro i ro hi hN R F
    refine pk_le n i (fun z => ?_) (fun z => ?_)
    · have e1 : i = n := by omega
      subst e1
      refine zy_keep (e := 0) h1 hn (by omega) hk T R (fun x hx => ?_) hp (K _)
      have := H0 x hx
      have := H1 x hx
      show 8 * f0 x + f1 x < 2 ^ 31
      omega
    · rw [nI_clamp (by omega : i < 2 ^ 31), F i (Nat.le_refl i) z, Q i z, zb_8m, nI_add]
      refine ⟨vp_in_nI (by omega) (by omega), vp_in_nI (by omega) (by omega), vp_in_nI (by omega) (by omega), fun r2 e2 => nm_r (nI_1 i) ?_⟩
      refine ih (i + 1) r2 (by omega) (by omega) (fun x hx => ?_) (fun x h1 h2 => ?_)
      · by_cases v : x = i
        · rw [v, e2, pk_us]
        · rw [e2, pk_un v]; exact R x (by omega)
      · rw [e2, pk_un (by omega)]; exact F x (by omega) h2
theorem zy_meet12 {post : Int32 → SY → Prop} {k0 k1 k : Nat} (h1 : 1 ≤ n) (hn : n ≤ 7) (T : zy_T n (zt_N n) co pr ct cx) (hk0 : k0 < zt_N n) (h0 : el 0 = nI k0) (R1 : zy_R ro n (zp_dg (zt_c n k1))) (hk : k < zt_N n) (hp : zt_p n k = zp_tg n (fun x => 8 * zp_dg (zt_c n k0) x + zp_dg (zt_c n k1) x)) (K : ∀ ro' ot' : Nat → Int32, post (nI (zt_n n k)) (nI n, nI (zt_N n), co, pr, ct, cx, fo, upd el 0 (nI k), ro', ot', nu, tw)) :
    ∀ (N i : Nat) (ot : Nat → Int32), i ≤ n → n - i < N → zy_R ot i (zp_dg (zt_c n k1)) → wY_meet_12 post (nI n) (nI (zt_N n)) N (nI i) co pr ct cx fo el ro ot nu tw := by
  intro N
  induction N with
  | zero => intro i ot _ hN; omega
  | succ N ih =>
    intro i ot hi hN Q
    refine pk_le n i (fun z => ?_) (fun z => ?_)
    · have e1 : i = n := by omega
      subst e1
      rw [h0]
      refine zy_take h1 hn hk0 T (fun ro' R => ?_)
      exact ⟨i + 1, zy_meet50 h1 hn T (fun j _ => zp_dg_lt _ j) (fun j _ => zp_dg_lt _ j) Q hk hp (fun r => K r ot) (i + 1) 0 ro' (by omega) (by omega) (fun j hj => absurd hj (Nat.not_lt_zero j)) (fun j _ hj => R j hj)⟩
    · rw [nI_clamp (by omega : i < 2 ^ 31), R1 i z]
      refine ⟨vp_in_nI (by omega) (by omega), vp_in_nI (by omega) (by omega), fun o2 e2 => nm_r (nI_1 i) ?_⟩
      refine ih (i + 1) o2 (by omega) (by omega) (fun x hx => ?_)
      by_cases v : x = i
      · rw [v, e2, pk_us]
      · rw [e2, pk_un v]; exact Q x (by omega)
theorem zy_meet {post : Int32 → SY → Prop} {k0 k1 k : Nat} (h1 : 1 ≤ n) (hn : n ≤ 7) (T : zy_T n (zt_N n) co pr ct cx) (hk0 : k0 < zt_N n) (hk1 : k1 < zt_N n) (h0 : el 0 = nI k0) (h01 : el 1 = nI k1) (hk : k < zt_N n) (hp : zt_p n k = zp_tg n (fun x => 8 * zp_dg (zt_c n k0) x + zp_dg (zt_c n k1) x)) (K : ∀ ro' ot' : Nat → Int32, post (nI (zt_n n k)) (nI n, nI (zt_N n), co, pr, ct, cx, fo, upd el 0 (nI k), ro', ot', nu, tw)) : wpY_meet post (nI n, nI (zt_N n), co, pr, ct, cx, fo, el, ro, ot, nu, tw) := by
  unfold wpY_meet
  try dsimp only
  rw [h01]
  refine zy_take h1 hn hk1 T (fun ro' R => ?_)
  exact ⟨n + 1, zy_meet12 h1 hn T hk0 h0 R hk hp K (n + 1) 0 ot (by omega) (by omega) (fun j hj => absurd hj (Nat.not_lt_zero j))⟩
/-! join -/
theorem zy_join60 {post : Int32 → SY → Prop} {J : Int32 → Int32 → Int32 → (Nat → Int32) → (Nat → Int32) → (Nat → Int32) → (Nat → Int32) → (Nat → Int32) → (Nat → Int32) → (Nat → Int32) → (Nat → Int32) → (Nat → Int32) → (Nat → Int32) → Prop} {f g : Nat → Nat} {i : Nat} (h1 : 1 ≤ n) (hn : n ≤ 7) (hi : i < n) (Hf : ∀ i, i < n → f i < 8) (Hg : ∀ i, i < n → g i < 8) (Q : zy_R ot n g)
    (K : ∀ ro' : Nat → Int32, zy_R ro' n (zp_jy n g f ((i + 1) * n)) → J (nI (i + 1)) (nI n) fm co pr ct cx fo el ro' ot nu tw) :
    ∀ (N j : Nat) (ro : Nat → Int32), j ≤ n → n - j < N → zy_R ro n (zp_jy n g f (i * n + j)) → wY_join_60 post J (nI i) N (nI j) (nI n) fm co pr ct cx fo el ro ot nu tw := by
  have hm : (i + 1) * n ≤ n * n := Nat.mul_le_mul_right n hi
  have hs : (i + 1) * n = i * n + n := Nat.succ_mul i n
  intro N
  induction N with
  | zero => intro j ro _ hN; omega
  | succ N ih =>
    intro j ro hj hN R
    refine pk_le n j (fun z => ?_) (fun z => ?_)
    · have e1 : j = n := by omega
      subst e1
      refine nm_r (nI_1 i) (K ro ?_)
      rw [hs]; exact R
    · obtain ⟨q1, q2, q3⟩ := zp_ij hi z
      have hl := zp_jy_lt (g := g) Hf (i * n + j) (by omega)
      have st := ih (j + 1)
      rw [← Nat.add_assoc, zp_jy_s, q2, q3] at st
      have hgi := Hg i hi
      have hgj := Hg j z
      rw [nI_clamp (by omega : i < 2 ^ 31), nI_clamp (by omega : j < 2 ^ 31), Q i hi, Q j z, R i hi, R j z]
      refine ⟨vp_in_nI (by omega) (by omega), vp_in_nI (by omega) (by omega), pk_eq (g i) (g j) (fun q => ?_) (fun q => ?_)⟩
      · rw [if_pos q] at st
        refine And.intro (vp_in_nI (by omega) (by omega)) (And.intro (vp_in_nI (by omega) (by omega)) ?_)
        refine zy_uni hn R (fun x hx => by have := hl x hx; omega) (by have := hl i hi; omega) (fun ro2 R2 => ?_)
        exact nm_r (nI_1 j) (st ro2 (by omega) (by omega) R2)
      · rw [if_neg q] at st
        exact nm_r (nI_1 j) (st ro (by omega) (by omega) R)
theorem zy_join50 {post : Int32 → SY → Prop} {f g : Nat → Nat} {k : Nat} (h1 : 1 ≤ n) (hn : n ≤ 7) (T : zy_T n (zt_N n) co pr ct cx) (Hf : ∀ i, i < n → f i < 8) (Hg : ∀ i, i < n → g i < 8) (Q : zy_R ot n g) (hk : k < zt_N n) (hp : zt_p n k = zp_tg n (zp_jy n g f (n * n))) (K : ∀ ro' : Nat → Int32, post (nI (zt_n n k)) (nI n, nI (zt_N n), co, pr, ct, cx, fo, upd el 0 (nI k), ro', ot, nu, tw)) :
    ∀ (N i : Nat) (ro : Nat → Int32), i ≤ n → n - i < N → zy_R ro n (zp_jy n g f (i * n)) → wY_join_50 post N (nI i) (nI n) (nI (zt_N n)) co pr ct cx fo el ro ot nu tw := by
  intro N
  induction N with
  | zero => intro i ro _ hN; omega
  | succ N ih =>
    intro i ro hi hN R
    refine pk_le n i (fun z => ?_) (fun z => ?_)
    · have e1 : i = n := by omega
      subst e1
      refine zy_keep (e := 0) h1 hn (by omega) hk T R (fun x hx => ?_) hp (K _)
      have := zp_jy_lt (g := g) Hf (i * i) (Nat.le_refl _) x hx
      omega
    · refine ⟨n + 1, zy_join60 h1 hn z Hf Hg Q (fun ro2 R2 => ?_) (n + 1) 0 ro (by omega) (by omega) R⟩
      exact ih (i + 1) ro2 (by omega) (by omega) R2
theorem zy_join12 {post : Int32 → SY → Prop} {k0 k1 k : Nat} (h1 : 1 ≤ n) (hn : n ≤ 7) (T : zy_T n (zt_N n) co pr ct cx) (hk0 : k0 < zt_N n) (h0 : el 0 = nI k0) (R1 : zy_R ro n (zp_dg (zt_c n k1))) (hk : k < zt_N n) (hp : zt_p n k = zp_tg n (zp_jy n (zp_dg (zt_c n k1)) (zp_dg (zt_c n k0)) (n * n))) (K : ∀ ro' ot' : Nat → Int32, post (nI (zt_n n k)) (nI n, nI (zt_N n), co, pr, ct, cx, fo, upd el 0 (nI k), ro', ot', nu, tw)) :
    ∀ (N i : Nat) (ot : Nat → Int32), i ≤ n → n - i < N → zy_R ot i (zp_dg (zt_c n k1)) → wY_join_12 post (nI n) (nI (zt_N n)) N (nI i) co pr ct cx fo el ro ot nu tw := by
  intro N
  induction N with
  | zero => intro i ot _ hN; omega
  | succ N ih =>
    intro i ot hi hN Q
    refine pk_le n i (fun z => ?_) (fun z => ?_)
    · have e1 : i = n := by omega
      subst e1
      rw [h0]
      refine zy_take h1 hn hk0 T (fun ro' R => ?_)
      refine ⟨i + 1, zy_join50 h1 hn T (fun j _ => zp_dg_lt _ j) (fun j _ => zp_dg_lt _ j) Q hk hp (fun r => K r ot) (i + 1) 0 ro' (by omega) (by omega) ?_⟩
      rw [Nat.zero_mul]
      exact R
    · rw [nI_clamp (by omega : i < 2 ^ 31), R1 i z]
      refine ⟨vp_in_nI (by omega) (by omega), vp_in_nI (by omega) (by omega), fun o2 e2 => nm_r (nI_1 i) ?_⟩
      refine ih (i + 1) o2 (by omega) (by omega) (fun x hx => ?_)
      by_cases v : x = i
      · rw [v, e2, pk_us]
      · rw [e2, pk_un v]; exact Q x (by omega)
theorem zy_join {post : Int32 → SY → Prop} {k0 k1 k : Nat} (h1 : 1 ≤ n) (hn : n ≤ 7) (T : zy_T n (zt_N n) co pr ct cx) (hk0 : k0 < zt_N n) (hk1 : k1 < zt_N n) (h0 : el 0 = nI k0) (h01 : el 1 = nI k1) (hk : k < zt_N n) (hp : zt_p n k = zp_tg n (zp_jy n (zp_dg (zt_c n k1)) (zp_dg (zt_c n k0)) (n * n))) (K : ∀ ro' ot' : Nat → Int32, post (nI (zt_n n k)) (nI n, nI (zt_N n), co, pr, ct, cx, fo, upd el 0 (nI k), ro', ot', nu, tw)) : wpY_join post (nI n, nI (zt_N n), co, pr, ct, cx, fo, el, ro, ot, nu, tw) := by
  unfold wpY_join
  try dsimp only
  rw [h01]
  refine zy_take h1 hn hk1 T (fun ro' R => ?_)
  exact ⟨n + 1, zy_join12 h1 hn T hk0 h0 R hk hp K (n + 1) 0 ot (by omega) (by omega) (fun j hj => absurd hj (Nat.not_lt_zero j))⟩
/-! isFiner, size -/
theorem zy_isf {post : Int32 → Prop} {p q : Nat} (h1 : 1 ≤ n) (hn : n ≤ 7) (T : zy_T n (zt_N n) co pr ct cx) (hp : p < zt_N n) (hq : q < zt_N n) (K : post (zb_b (zp_fn (zt_p n p) (zt_p n q)))) : wpY_isFiner post (nI n, fm, co, pr, ct, cx, fo, el, ro, ot, nu, tw) (nI p) (nI q) := by
  have hN7 := zt_N_le h1 hn
  have hpb := zt_pb n p
  show vp_in (nI p) 877 ∧ _
  rw [nI_clamp (by omega : p < 2 ^ 31), nI_clamp (by omega : q < 2 ^ 31), (T p hp).2.1, (T q hq).2.1, zp_fnI (by omega)]
  refine ⟨vp_in_nI (by omega) (by omega), vp_in_nI (by omega) (by omega), ?_⟩
  cases w : zp_fn (zt_p n p) (zt_p n q)
  · rw [w] at K; exact br_f (by decide) K
  · rw [w] at K; exact br_t rfl K
theorem zy_siz34 {post : Int32 → SY → Prop} {f : Nat → Nat} {i : Nat} (hn : n ≤ 7) (hi : i < n) (R : zy_R ro n f) (hf : ∀ i, i < n → f i < 8) (K : post (nI (zp_sz f (f i) n)) (nI n, fm, co, pr, ct, cx, fo, el, ro, ot, nu, tw)) :
    ∀ (N j : Nat), j ≤ n → n - j < N → wY_size_34 post (nI i) (nI n) fm co pr ct cx fo el ro ot nu tw N (nI (zp_sz f (f i) j)) (nI j) := by
  intro N
  induction N with
  | zero => intro j _ hN; omega
  | succ N ih =>
    intro j hj hN
    refine pk_le n j (fun z => ?_) (fun z => ?_)
    · have e1 : j = n := by omega
      subst e1
      exact K
    · have st := ih (j + 1) (by omega) (by omega)
      rw [zp_sz_s] at st
      have a1 := hf i hi
      have a2 := hf j z
      rw [nI_clamp (by omega : j < 2 ^ 31), nI_clamp (by omega : i < 2 ^ 31), R j z, R i hi]
      refine ⟨vp_in_nI (by omega) (by omega), vp_in_nI (by omega) (by omega), pk_eq (f j) (f i) (fun q => ?_) (fun q => ?_)⟩
      · rw [if_pos q] at st
        exact nm_r (nI_1 _) (nm_r (nI_1 j) st)
      · rw [if_neg q] at st
        exact nm_r (nI_1 j) st
theorem zy_size {post : Int32 → SY → Prop} {e i k0 : Nat} (h1 : 1 ≤ n) (hn : n ≤ 7) (he : e < 2) (hi : i < n) (T : zy_T n (zt_N n) co pr ct cx) (hk0 : k0 < zt_N n) (hel : el e = nI k0) (K : ∀ ro' : Nat → Int32, post (nI (zp_sz (zp_dg (zt_c n k0)) (zp_dg (zt_c n k0) i) n)) (nI n, fm, co, pr, ct, cx, fo, el, ro', ot, nu, tw)) : wpY_size post (nI n, fm, co, pr, ct, cx, fo, el, ro, ot, nu, tw) (nI e) (nI i) := by
  unfold wpY_size
  try dsimp only
  refine zy_bE0 he ?_
  refine br_t rfl ?_
  refine zy_bP0 hn hi ?_
  refine br_t rfl ?_
  rw [nI_clamp (by omega : e < 2 ^ 31), hel]
  refine And.intro (vp_in_nI he (by omega)) ?_
  refine zy_take h1 hn hk0 T (fun ro' R => ?_)
  exact ⟨n + 1, zy_siz34 hn hi R (fun j _ => zp_dg_lt _ j) (K ro') (n + 1) 0 (by omega) (by omega)⟩
end
end
section
theorem zp_fn_tr {a b c : Nat} (h1 : zp_fn a b = true) (h2 : zp_fn b c = true) : zp_fn a c = true := by
  rw [zp_fn_tb] at *
  exact fun i h => h2 i (h1 i h)
section
variable {n : Nat} {fm : Int32} {co pr ct cx fo el ro ot nu tw : Nat → Int32}
/-! uncross: the search for the best -/
theorem zy_unc15 {post : Int32 → SY → Prop} {e k0 B : Nat} (h1 : 1 ≤ n) (hn : n ≤ 7) (he : e < 2) (T : zy_T n (zt_N n) co pr ct cx) (hk0 : k0 < zt_N n) (hel : el e = nI k0) (hB : B < zt_N n) (xB : zt_x n B = 0) (fB : zp_fn (zt_p n k0) (zt_p n B) = true) (H : ∀ k, k < zt_N n → zt_x n k = 0 → zp_fn (zt_p n k0) (zt_p n k) = true → zt_n n k < zt_n n B ∨ k = B) (K : post (nI (zt_n n B)) (nI n, nI (zt_N n), co, pr, ct, cx, fo, upd el e (nI B), ro, ot, nu, tw)) :
    ∀ (N k b : Nat), k ≤ zt_N n → zt_N n - k < N → b < zt_N n → (b = B ∨ (zt_n n b < zt_n n B ∧ k ≤ B)) → wY_uncross_15 post (nI e) (nI n) (nI (zt_N n)) co pr ct cx fo el ro ot nu tw N (nI b) (nI k) := by
  have hN7 := zt_N_le h1 hn
  intro N
  induction N with
  | zero => intro k b _ hN; omega
  | succ N ih =>
    intro k b hk hN hb I
    refine pk_le (zt_N n) k (fun z => ?_) (fun z => ?_)
    · have e1 : b = B := by omega
      subst e1
      rw [nI_clamp (by omega : e < 2 ^ 31), nI_clamp (by omega : b < 2 ^ 31), (T b hb).2.2.1]
      exact ⟨vp_in_nI he (by omega), nm_e ⟨vp_in_nI (by omega) (by omega), K⟩⟩
    · have nk := zt_nb h1 hn z
      have nb := zt_nb h1 hn hb
      have nB := zt_nb h1 hn hB
      have skip : k ≠ B → wY_uncross_15 post (nI e) (nI n) (nI (zt_N n)) co pr ct cx fo el ro ot nu tw N (nI b) (nI (k + 1)) := fun q => ih (k + 1) b (by omega) (by omega) hb (by omega)
      rw [nI_clamp (by omega : k < 2 ^ 31), nI_clamp (by omega : e < 2 ^ 31), nI_clamp (by omega : b < 2 ^ 31), (T k z).2.2.2, (T k z).2.2.1, (T b hb).2.2.1, hel]
      refine ⟨vp_in_nI (by omega) (by omega), ?_⟩
      rcases zt_xb h1 hn z with q | q
      · rw [q]
        refine br_t rfl ⟨vp_in_nI he (by omega), ?_⟩
        refine zy_isf h1 hn T hk0 z ?_
        cases w : zp_fn (zt_p n k0) (zt_p n k)
        · refine br_t rfl (nm_r (nI_1 k) (skip (fun v => ?_)))
          rw [v, fB] at w
          exact absurd w (by decide)
        · refine br_f zb_10 ⟨vp_in_nI (by omega) (by omega), vp_in_nI (by omega) (by omega), ?_⟩
          have hk := H k z q w
          refine pk_le (zt_n n k) (zt_n n b) (fun v => ?_) (fun v => ?_)
          · refine nm_r (nI_1 k) (ih (k + 1) b (by omega) (by omega) hb ?_)
            rcases I with I | I
            · exact Or.inl I
            · rcases hk with hk | hk
              · exact Or.inr ⟨I.1, by
                  have hkB : k ≠ B := fun y => (by rw [y] at hk; exact Nat.lt_irrefl _ hk)
                  omega⟩
              · rw [hk] at v; omega
          · refine nm_r (nI_1 k) (ih (k + 1) k (by omega) (by omega) z ?_)
            rcases I with I | I
            · rw [I] at v
              rcases hk with hk | hk
              · omega
              · exact Or.inl hk
            · rcases hk with hk | hk
              · exact Or.inr ⟨hk, by
                  have hkB : k ≠ B := fun y => (by rw [y] at hk; exact Nat.lt_irrefl _ hk)
                  omega⟩
              · exact Or.inl hk
      · rw [q]
        refine br_f zb_10 (nm_r (nI_1 k) (skip (fun v => ?_)))
        rw [v, xB] at q
        omega
theorem zt_00 (h1 : 1 ≤ n) (hn : n ≤ 7) : zt_x n 0 = 0 ∧ ∀ k, k < zt_N n → zp_fn (zt_p n k) (zt_p n 0) = true := by
  have hN7 := zt_N_le h1 hn
  have h0 := (zt_chain h1 hn).1
  have hd : ∀ i, zp_dg (zt_c n 0) i = 0 := fun i => by
    rw [h0]
    show 0 / 8 ^ i % 8 = 0
    rw [Nat.zero_div]
  obtain ⟨p, _, x⟩ := zt_all h1 hn (k := 0) (by omega)
  constructor
  · rw [x]
    cases q : zp_cb n (zp_dg (zt_c n 0))
    · rfl
    · obtain ⟨i, j, k, l, _, _, _, _, _, _, h⟩ := zp_cb_iff.mp q
      exact absurd (by rw [hd, hd]) h
  · intro k hk
    rw [p, (zt_all h1 hn hk).1, zp_tg_fn]
    intro i j _ _ _
    rw [hd, hd]
theorem zy_unc {post : Int32 → SY → Prop} {e k0 B : Nat} (h1 : 1 ≤ n) (hn : n ≤ 7) (he : e < 2) (T : zy_T n (zt_N n) co pr ct cx) (hk0 : k0 < zt_N n) (hel : el e = nI k0) (hB : B < zt_N n) (xB : zt_x n B = 0) (fB : zp_fn (zt_p n k0) (zt_p n B) = true) (H : ∀ k, k < zt_N n → zt_x n k = 0 → zp_fn (zt_p n k0) (zt_p n k) = true → zt_n n k < zt_n n B ∨ k = B) (K : post (nI (zt_n n B)) (nI n, nI (zt_N n), co, pr, ct, cx, fo, upd el e (nI B), ro, ot, nu, tw)) : wpY_uncross post (nI n, nI (zt_N n), co, pr, ct, cx, fo, el, ro, ot, nu, tw) (nI e) := by
  have hN7 := zt_N_le h1 hn
  obtain ⟨x0, f0⟩ := zt_00 h1 hn
  unfold wpY_uncross
  try dsimp only
  refine zy_bE0 he ?_
  refine br_t rfl ⟨zt_N n + 1, zy_unc15 h1 hn he T hk0 hel hB xB fB H K (zt_N n + 1) 0 0 (by omega) (by omega) (by omega) ?_⟩
  rcases H 0 (by omega) x0 (f0 k0 hk0) with q | q
  · exact Or.inr ⟨q, Nat.zero_le _⟩
  · exact Or.inl q
/-! complement -/
def zp_il (f g : Nat → Nat) (x : Nat) : Nat := if x % 2 = 0 then f (x / 2) else 8 + g (x / 2)
theorem zy_cmp112 {post : Int32 → SY → Prop} {J : Int32 → Int32 → Int32 → Int32 → (Nat → Int32) → (Nat → Int32) → (Nat → Int32) → (Nat → Int32) → (Nat → Int32) → (Nat → Int32) → (Nat → Int32) → (Nat → Int32) → (Nat → Int32) → (Nat → Int32) → Prop} {f g : Nat → Nat} {x1 : Int32} {b k : Nat} (h1 : 1 ≤ n) (hn : n ≤ 7) (hf : ∀ i, i < n → f i < 8) (hg : ∀ i, i < n → g i < 8) (R : zy_R ro n g)
    (K1 : zp_cb (2 * n) (zp_il f g) = true → ∀ nu' tw' : Nat → Int32, J (nI b) (nI (k + 1)) (nI n) fm co pr ct cx fo el ro ot nu' tw') (K0 : zp_cb (2 * n) (zp_il f g) = false → ∀ nu' tw' : Nat → Int32, J (nI k) (nI (k + 1)) (nI n) fm co pr ct cx fo el ro ot nu' tw') :
    ∀ (N i : Nat) (nu : Nat → Int32), i ≤ n → n - i < N → (∀ j, j < n → nu (2 * j) = nI (f j)) → (∀ j, j < i → nu (2 * j + 1) = nI (8 + g j)) → wY_complement_112 post J x1 (nI b) (nI k) (nI n) fm N (nI i) co pr ct cx fo el ro ot nu tw := by
  intro N
  induction N with
  | zero => intro i nu _ hN; omega
  | succ N ih =>
    intro i nu hi hN E O
    refine pk_le n i (fun z => ?_) (fun z => ?_)
    · have e1 : i = n := by omega
      subst e1
      refine zy_crs (m := 2 * i) (t := zp_il f g) hn (by omega) (zb_2m i) (Or.inr ⟨by omega, fun j hj => ?_⟩) (fun j hj => ?_) (fun tw' => ?_)
      · unfold zp_il
        split
        · rw [← E (j / 2) (by omega)]
          exact congrArg nu (by omega)
        · rw [← O (j / 2) (by omega)]
          exact congrArg nu (by omega)
      · unfold zp_il
        have a1 := hf (j / 2) (by omega)
        have a2 := hg (j / 2) (by omega)
        split <;> omega
      · cases w : zp_cb (2 * i) (zp_il f g)
        · exact br_t rfl (nm_r (nI_1 k) (K0 w nu tw'))
        · exact br_f zb_10 (nm_r (nI_1 k) (K1 w nu tw'))
    · rw [nI_clamp (by omega : i < 2 ^ 31), R i z, zb_2m, nI_1 (2 * i), nI_clamp (by omega : 2 * i + 1 < 2 ^ 31), zb_8a]
      refine ⟨vp_in_nI (by omega) (by omega), vp_in_nI (by omega) (by omega), fun u2 e2 => nm_r (nI_1 i) ?_⟩
      refine ih (i + 1) u2 (by omega) (by omega) (fun j hj => ?_) (fun j hj => ?_)
      · rw [e2, pk_un (by omega)]; exact E j hj
      · by_cases v : j = i
        · rw [v, e2, pk_us]
        · rw [e2, pk_un (by omega)]; exact O j (by omega)
theorem zy_cmp73 {post : Int32 → SY → Prop} {J : Int32 → Int32 → Int32 → Int32 → (Nat → Int32) → (Nat → Int32) → (Nat → Int32) → (Nat → Int32) → (Nat → Int32) → (Nat → Int32) → (Nat → Int32) → (Nat → Int32) → (Nat → Int32) → (Nat → Int32) → Prop} {f : Nat → Nat} {x1 : Int32} {b k : Nat} (h1 : 1 ≤ n) (hn : n ≤ 7) (T : zy_T n (zt_N n) co pr ct cx) (hk : k < zt_N n) (hf : ∀ i, i < n → f i < 8) (R : zy_R ro n f)
    (K1 : zp_cb (2 * n) (zp_il f (zp_dg (zt_c n k))) = true → ∀ ro' nu' tw' : Nat → Int32, J (nI b) (nI (k + 1)) (nI n) fm co pr ct cx fo el ro' ot nu' tw') (K0 : zp_cb (2 * n) (zp_il f (zp_dg (zt_c n k))) = false → ∀ ro' nu' tw' : Nat → Int32, J (nI k) (nI (k + 1)) (nI n) fm co pr ct cx fo el ro' ot nu' tw') :
    ∀ (N i : Nat) (nu : Nat → Int32), i ≤ n → n - i < N → (∀ j, j < i → nu (2 * j) = nI (f j)) → wY_complement_73 post J x1 (nI b) (nI k) (nI n) fm N (nI i) co pr ct cx fo el ro ot nu tw := by
  intro N
  induction N with
  | zero => intro i nu _ hN; omega
  | succ N ih =>
    intro i nu hi hN E
    refine pk_le n i (fun z => ?_) (fun z => ?_)
    · have e1 : i = n := by omega
      subst e1
      refine zy_take h1 hn hk T (fun ro' R' => ?_)
      exact ⟨i + 1, zy_cmp112 h1 hn hf (fun j _ => zp_dg_lt _ j) R' (fun w => K1 w ro') (fun w => K0 w ro') (i + 1) 0 nu (by omega) (by omega) E (fun j hj => absurd hj (Nat.not_lt_zero j))⟩
    · rw [nI_clamp (by omega : i < 2 ^ 31), R i z, zb_2m, nI_clamp (by omega : 2 * i < 2 ^ 31)]
      refine ⟨vp_in_nI (by omega) (by omega), vp_in_nI (by omega) (by omega), fun u2 e2 => nm_r (nI_1 i) ?_⟩
      refine ih (i + 1) u2 (by omega) (by omega) (fun j hj => ?_)
      by_cases v : j = i
      · rw [v, e2, pk_us]
      · rw [e2, pk_un (by omega)]; exact E j (by omega)
theorem zy_cmp37 {post : Int32 → SY → Prop} {e k0 B : Nat} (h1 : 1 ≤ n) (hn : n ≤ 7) (he : e < 2) (T : zy_T n (zt_N n) co pr ct cx) (hk0 : k0 < zt_N n) (hel : el e = nI k0) (hB : B < zt_N n) (vB : zp_cb (2 * n) (zp_il (zp_dg (zt_c n k0)) (zp_dg (zt_c n B))) = false) (H : ∀ k, k < zt_N n → zp_cb (2 * n) (zp_il (zp_dg (zt_c n k0)) (zp_dg (zt_c n k))) = false → zt_n n B < zt_n n k ∨ k = B) (K : ∀ ro' nu' tw' : Nat → Int32, post (nI (zt_n n B)) (nI n, nI (zt_N n), co, pr, ct, cx, fo, upd el e (nI B), ro', ot, nu', tw')) :
    ∀ (N k b : Nat) (ro nu tw : Nat → Int32), k ≤ zt_N n → zt_N n - k < N → b < zt_N n → (b = B ∨ (zt_n n B < zt_n n b ∧ k ≤ B)) → wY_complement_37 post (nI e) N (nI b) (nI k) (nI n) (nI (zt_N n)) co pr ct cx fo el ro ot nu tw := by
  have hN7 := zt_N_le h1 hn
  intro N
  induction N with
  | zero => intro k b ro nu tw _ hN; omega
  | succ N ih =>
    intro k b ro nu tw hk hN hb I
    refine pk_le (zt_N n) k (fun z => ?_) (fun z => ?_)
    · have e1 : b = B := by omega
      subst e1
      rw [nI_clamp (by omega : e < 2 ^ 31), nI_clamp (by omega : b < 2 ^ 31), (T b hb).2.2.1]
      exact ⟨vp_in_nI he (by omega), nm_e ⟨vp_in_nI (by omega) (by omega), K ro nu tw⟩⟩
    · have nk := zt_nb h1 hn z
      have nb := zt_nb h1 hn hb
      have nB := zt_nb h1 hn hB
      rw [nI_clamp (by omega : k < 2 ^ 31), nI_clamp (by omega : e < 2 ^ 31), nI_clamp (by omega : b < 2 ^ 31), (T k z).2.2.1, (T b hb).2.2.1, hel]
      refine ⟨vp_in_nI (by omega) (by omega), vp_in_nI (by omega) (by omega), pk_le (zt_n n b) (zt_n n k) (fun v => ?_) (fun v => ?_)⟩
      · refine nm_r (nI_1 k) (ih (k + 1) b ro nu tw (by omega) (by omega) hb ?_)
        rcases I with I | I
        · exact Or.inl I
        · refine Or.inr ⟨I.1, ?_⟩
          have : k ≠ B := fun y => by rw [y] at v; omega
          omega
      · refine And.intro (vp_in_nI he (by omega)) ?_
        refine zy_take h1 hn hk0 T (fun ro' R => ?_)
        refine ⟨n + 1, zy_cmp73 h1 hn T z (fun j _ => zp_dg_lt _ j) R (fun w ro2 nu2 tw2 => ?_) (fun w ro2 nu2 tw2 => ?_) (n + 1) 0 nu (by omega) (by omega) (fun j hj => absurd hj (Nat.not_lt_zero j))⟩
        · refine ih (k + 1) b ro2 nu2 tw2 (by omega) (by omega) hb ?_
          rcases I with I | I
          · exact Or.inl I
          · refine Or.inr ⟨I.1, ?_⟩
            have : k ≠ B := fun y => by rw [y, vB] at w; exact absurd w (by decide)
            omega
        · refine ih (k + 1) k ro2 nu2 tw2 (by omega) (by omega) z ?_
          rcases H k z w with y | y
          · rcases I with I | I
            · rw [I] at v; omega
            · refine Or.inr ⟨y, ?_⟩
              have : k ≠ B := fun x => by rw [x] at y; omega
              omega
          · exact Or.inl y
theorem zy_cmp {post : Int32 → SY → Prop} {e k0 : Nat} (h1 : 1 ≤ n) (hn : n ≤ 7) (he : e < 2) (T : zy_T n (zt_N n) co pr ct cx) (hk0 : k0 < zt_N n) (hel : el e = nI k0) (K1 : zt_x n k0 = 1 → post (-1000001) (nI n, nI (zt_N n), co, pr, ct, cx, fo, el, ro, ot, nu, tw))
    (K0 : zt_x n k0 = 0 → ∃ B, B < zt_N n ∧ zp_cb (2 * n) (zp_il (zp_dg (zt_c n k0)) (zp_dg (zt_c n B))) = false ∧ (∀ k, k < zt_N n → zp_cb (2 * n) (zp_il (zp_dg (zt_c n k0)) (zp_dg (zt_c n k))) = false → zt_n n B < zt_n n k ∨ k = B) ∧ zp_cb (2 * n) (zp_il (zp_dg (zt_c n k0)) (zp_dg (zt_c n (zt_N n - 1)))) = false ∧ ∀ ro' nu' tw' : Nat → Int32, post (nI (zt_n n B)) (nI n, nI (zt_N n), co, pr, ct, cx, fo, upd el e (nI B), ro', ot, nu', tw')) : wpY_complement post (nI n, nI (zt_N n), co, pr, ct, cx, fo, el, ro, ot, nu, tw) (nI e) := by
  have hN7 := zt_N_le h1 hn
  unfold wpY_complement
  try dsimp only
  refine zy_bE0 he ?_
  rw [nI_clamp (by omega : e < 2 ^ 31), hel, nI_clamp (by omega : k0 < 2 ^ 31), (T k0 hk0).2.2.2]
  refine br_t rfl ⟨vp_in_nI he (by omega), vp_in_nI (by omega) (by omega), ?_⟩
  rcases zt_xb h1 hn hk0 with q | q
  · obtain ⟨B, hB, vB, H, vl, K⟩ := K0 q
    rw [q]
    refine br_t rfl (nm_r (zb_s1 (by omega)) ⟨zt_N n + 1, ?_⟩)
    refine zy_cmp37 h1 hn he T hk0 hel hB vB H K (zt_N n + 1) 0 (zt_N n - 1) ro nu tw (by omega) (by omega) (by omega) ?_
    rcases H (zt_N n - 1) (by omega) vl with y | y
    · exact Or.inr ⟨y, Nat.zero_le _⟩
    · exact Or.inl y
  · rw [q]
    exact br_f zb_10 (K1 q)
/-! interval, uncrossed: counts -/
def zp_cn (c : Nat → Bool) : Nat → Nat
  | 0 => 0
  | k + 1 => cond (c k) (zp_cn c k + 1) (zp_cn c k)
theorem zy_btw {post : Int32 → Prop} {r p q : Nat} (h1 : 1 ≤ n) (hn : n ≤ 7) (T : zy_T n (zt_N n) co pr ct cx) (hp : p < zt_N n) (hq : q < zt_N n) (hr : r < zt_N n) (h0 : el 0 = nI p) (h01 : el 1 = nI q) (K : post (zb_b (zp_fn (zt_p n p) (zt_p n r) && zp_fn (zt_p n r) (zt_p n q)))) : wpY_between post (nI n, fm, co, pr, ct, cx, fo, el, ro, ot, nu, tw) (nI r) := by
  unfold wpY_between
  try dsimp only
  rw [h0, h01]
  refine zy_isf h1 hn T hp hr ?_
  cases w : zp_fn (zt_p n p) (zt_p n r)
  · rw [w] at K
    exact br_t rfl K
  · rw [w] at K
    refine br_f zb_10 ?_
    refine zy_isf h1 hn T hr hq ?_
    cases v : zp_fn (zt_p n r) (zt_p n q)
    · rw [v] at K
      exact br_t rfl K
    · rw [v] at K
      exact br_f zb_10 K
theorem zy_int4 {post : Int32 → Prop} {p q : Nat} (h1 : 1 ≤ n) (hn : n ≤ 7) (T : zy_T n (zt_N n) co pr ct cx) (hp : p < zt_N n) (hq : q < zt_N n) (h0 : el 0 = nI p) (h01 : el 1 = nI q) (K : post (nI (zp_cn (fun r => zp_fn (zt_p n p) (zt_p n r) && zp_fn (zt_p n r) (zt_p n q)) (zt_N n)))) :
    ∀ (N k : Nat), k ≤ zt_N n → zt_N n - k < N → wY_interval_4 post (nI n) (nI (zt_N n)) co pr ct cx fo el ro ot nu tw N (nI (zp_cn (fun r => zp_fn (zt_p n p) (zt_p n r) && zp_fn (zt_p n r) (zt_p n q)) k)) (nI k) := by
  have hN7 := zt_N_le h1 hn
  intro N
  induction N with
  | zero => intro k _ hN; omega
  | succ N ih =>
    intro k hk hN
    refine pk_le (zt_N n) k (fun z => ?_) (fun z => ?_)
    · have e1 : k = zt_N n := by omega
      rw [e1]
      exact K
    · have st := ih (k + 1) (by omega) (by omega)
      refine zy_btw h1 hn T hp hq z h0 h01 ?_
      rw [show zp_cn (fun r => zp_fn (zt_p n p) (zt_p n r) && zp_fn (zt_p n r) (zt_p n q)) (k + 1) = cond (zp_fn (zt_p n p) (zt_p n k) && zp_fn (zt_p n k) (zt_p n q)) (zp_cn (fun r => zp_fn (zt_p n p) (zt_p n r) && zp_fn (zt_p n r) (zt_p n q)) k + 1) (zp_cn (fun r => zp_fn (zt_p n p) (zt_p n r) && zp_fn (zt_p n r) (zt_p n q)) k) from rfl] at st
      cases w : (zp_fn (zt_p n p) (zt_p n k) && zp_fn (zt_p n k) (zt_p n q))
      · rw [w] at st
        exact br_t rfl (nm_r (nI_1 k) st)
      · rw [w] at st
        exact br_f zb_10 (nm_r (nI_1 _) (nm_r (nI_1 k) st))
theorem zy_int {post : Int32 → Prop} {p q : Nat} (h1 : 1 ≤ n) (hn : n ≤ 7) (T : zy_T n (zt_N n) co pr ct cx) (hp : p < zt_N n) (hq : q < zt_N n) (h0 : el 0 = nI p) (h01 : el 1 = nI q) (K : post (nI (zp_cn (fun r => zp_fn (zt_p n p) (zt_p n r) && zp_fn (zt_p n r) (zt_p n q)) (zt_N n)))) : wpY_interval post (nI n, nI (zt_N n), co, pr, ct, cx, fo, el, ro, ot, nu, tw) :=
  ⟨zt_N n + 1, zy_int4 h1 hn T hp hq h0 h01 K (zt_N n + 1) 0 (by omega) (by omega)⟩
theorem zy_unr32 {post : Int32 → Prop} {e k0 : Nat} (h1 : 1 ≤ n) (hn : n ≤ 7) (he : e < 2) (T : zy_T n (zt_N n) co pr ct cx) (hk0 : k0 < zt_N n) (hel : el e = nI k0) (K : post (nI (zp_cn (fun r => Nat.beq (zt_x n r) 0 && zp_fn (zt_p n r) (zt_p n k0)) (zt_N n)))) :
    ∀ (N k : Nat), k ≤ zt_N n → zt_N n - k < N → wY_uncrossed_32 post (nI e) (nI n) (nI (zt_N n)) co pr ct cx fo el ro ot nu tw N (nI (zp_cn (fun r => Nat.beq (zt_x n r) 0 && zp_fn (zt_p n r) (zt_p n k0)) k)) (nI k) := by
  have hN7 := zt_N_le h1 hn
  intro N
  induction N with
  | zero => intro k _ hN; omega
  | succ N ih =>
    intro k hk hN
    refine pk_le (zt_N n) k (fun z => ?_) (fun z => ?_)
    · have e1 : k = zt_N n := by omega
      rw [e1]
      exact K
    · have st := ih (k + 1) (by omega) (by omega)
      rw [show zp_cn (fun r => Nat.beq (zt_x n r) 0 && zp_fn (zt_p n r) (zt_p n k0)) (k + 1) = cond (Nat.beq (zt_x n k) 0 && zp_fn (zt_p n k) (zt_p n k0)) (zp_cn (fun r => Nat.beq (zt_x n r) 0 && zp_fn (zt_p n r) (zt_p n k0)) k + 1) (zp_cn (fun r => Nat.beq (zt_x n r) 0 && zp_fn (zt_p n r) (zt_p n k0)) k) from rfl] at st
      rw [nI_clamp (by omega : k < 2 ^ 31), nI_clamp (by omega : e < 2 ^ 31), (T k z).2.2.2, hel]
      refine ⟨vp_in_nI (by omega) (by omega), ?_⟩
      rcases zt_xb h1 hn z with q | q
      · rw [q] at st ⊢
        refine br_t rfl ⟨vp_in_nI he (by omega), ?_⟩
        refine zy_isf h1 hn T z hk0 ?_
        cases w : zp_fn (zt_p n k) (zt_p n k0)
        · rw [w] at st
          exact br_t rfl (nm_r (nI_1 k) st)
        · rw [w] at st
          exact br_f zb_10 (nm_r (nI_1 _) (nm_r (nI_1 k) st))
      · rw [q] at st ⊢
        exact br_f zb_10 (nm_r (nI_1 k) st)
theorem zy_unr {post : Int32 → Prop} {e k0 : Nat} (h1 : 1 ≤ n) (hn : n ≤ 7) (he : e < 2) (T : zy_T n (zt_N n) co pr ct cx) (hk0 : k0 < zt_N n) (hel : el e = nI k0) (K1 : zt_x n k0 = 1 → post (-1000001)) (K : zt_x n k0 = 0 → post (nI (zp_cn (fun r => Nat.beq (zt_x n r) 0 && zp_fn (zt_p n r) (zt_p n k0)) (zt_N n)))) : wpY_uncrossed post (nI n, nI (zt_N n), co, pr, ct, cx, fo, el, ro, ot, nu, tw) (nI e) := by
  have hN7 := zt_N_le h1 hn
  unfold wpY_uncrossed
  try dsimp only
  refine zy_bE0 he ?_
  rw [nI_clamp (by omega : e < 2 ^ 31), hel, nI_clamp (by omega : k0 < 2 ^ 31), (T k0 hk0).2.2.2]
  refine br_t rfl ⟨vp_in_nI he (by omega), vp_in_nI (by omega) (by omega), ?_⟩
  rcases zt_xb h1 hn hk0 with q | q
  · rw [q]
    exact br_t rfl ⟨zt_N n + 1, zy_unr32 h1 hn he T hk0 hel (K q) (zt_N n + 1) 0 (by omega) (by omega)⟩
  · rw [q]
    exact br_f zb_10 (K1 q)
end
end
section
/-! sums over places -/
def zp_sm (c : Nat → Bool) (w : Nat → Nat) : Nat → Nat
  | 0 => 0
  | k + 1 => cond (c k) (zp_sm c w k + w k) (zp_sm c w k)
noncomputable def zp_bf (n : Nat) (ch : Bool) (r s : Nat) : Bool := cond ch (Nat.beq (zt_n n s) (zt_n n r + 1)) (Nat.ble (zt_n n r + 1) (zt_n n s))
noncomputable def zp_wc (n : Nat) (ch : Bool) (p r s : Nat) : Bool := zp_bf n ch r s && (zp_fn (zt_p n p) (zt_p n s) && zp_fn (zt_p n s) (zt_p n r))
/-- a coarser one has no more blocks -/
theorem zp_blm {n : Nat} {p s : Nat → Nat} (P : zp_rg n p) (S : zp_rg n s) (h : ∀ i j, i < n → j < n → p i = p j → s i = s j) : ∀ i, i ≤ n → zp_bl s i ≤ zp_bl p i := by
  intro i
  induction i with
  | zero => intro _; exact Nat.le_refl 0
  | succ i ih =>
    intro hi
    have ih := ih (by omega)
    have hp := P i (by omega)
    rw [zp_bl_s, zp_bl_s]
    by_cases q : s i = zp_bl s i
    · have hpi : p i = zp_bl p i := by
        rcases Nat.lt_or_ge (p i) (zp_bl p i) with z | z
        · exfalso
          obtain ⟨j, hj, e⟩ := (zp_occ P i (by omega) (p i)).mp z
          have h1 := h j i (by omega) (by omega) e
          have h2 := (zp_occ S i (by omega) (s i)).mpr ⟨j, hj, h1⟩
          omega
        · omega
      rw [if_pos q, if_pos hpi]; omega
    · rw [if_neg q]
      split <;> omega
theorem zt_mono {n p s : Nat} (h1 : 1 ≤ n) (hn : n ≤ 7) (hp : p < zt_N n) (hs : s < zt_N n) (h : zp_fn (zt_p n p) (zt_p n s) = true) : zt_n n s ≤ zt_n n p := by
  obtain ⟨a1, a2, _⟩ := zt_all h1 hn hp
  obtain ⟨b1, b2, _⟩ := zt_all h1 hn hs
  have gp := (zt_lt h1 hn hp).2
  have gs := (zt_lt h1 hn hs).2
  rw [a1, b1, zp_tg_fn] at h
  have h2 := zp_blm gp gs h n (Nat.le_refl n)
  obtain ⟨m, rfl⟩ : ∃ m, n = m + 1 := ⟨n - 1, by omega⟩
  rw [a2, b2, ← zp_bm gp m (Nat.le_refl _), ← zp_bm gs m (Nat.le_refl _)]
  exact h2
section
variable {n : Nat} {co pr ct cx fo el ro ot nu tw : Nat → Int32}
theorem zy_w135 {post : Int32 → SY → Prop} {J33 J47 : Int32 → (Nat → Int32) → (Nat → Int32) → (Nat → Int32) → (Nat → Int32) → (Nat → Int32) → (Nat → Int32) → (Nat → Int32) → (Nat → Int32) → (Nat → Int32) → (Nat → Int32) → Prop} {J83 : Int32 → Int32 → Prop} {x1 x3 x4 : Int32} {p r s b : Nat} {z : Bool} {F : Nat → Nat} (h1 : 1 ≤ n) (hn : n ≤ 7) (T : zy_T n (zt_N n) co pr ct cx) (hp : p < zt_N n) (hr : r < zt_N n) (hs : s < zt_N n) (hF : z = true → zp_fn (zt_p n p) (zt_p n s) = true → zp_fn (zt_p n s) (zt_p n r) = true → fo s = nI (F s))
    (K : J83 (nI (cond (z && (zp_fn (zt_p n p) (zt_p n s) && zp_fn (zt_p n s) (zt_p n r))) (b + F s) b)) (nI (s + 1))) : wY_work_135 post J33 J47 J83 x1 (nI p) x3 x4 (nI r) (nI b) (nI s) (zb_b z) (nI n) (nI (zt_N n)) co pr ct cx fo el ro ot nu tw := by
  have hN7 := zt_N_le h1 hn
  unfold wY_work_135
  cases z
  · exact br_t rfl (nm_r (nI_1 s) K)
  · refine br_f zb_10 ?_
    refine zy_isf h1 hn T hp hs ?_
    cases w : zp_fn (zt_p n p) (zt_p n s)
    · rw [w] at K
      exact br_t rfl (nm_r (nI_1 s) K)
    · rw [w] at K
      refine br_f zb_10 ?_
      refine zy_isf h1 hn T hs hr ?_
      cases v : zp_fn (zt_p n s) (zt_p n r)
      · rw [v] at K
        exact br_t rfl (nm_r (nI_1 s) K)
      · rw [v] at K
        refine br_f zb_10 ?_
        rw [nI_clamp (by omega : s < 2 ^ 31), hF rfl w v, nI_add]
        exact ⟨vp_in_nI (by omega) (by omega), nm_e (nm_r (nI_1 s) K)⟩
theorem zy_w83 {post : Int32 → SY → Prop} {J33 J47 : Int32 → (Nat → Int32) → (Nat → Int32) → (Nat → Int32) → (Nat → Int32) → (Nat → Int32) → (Nat → Int32) → (Nat → Int32) → (Nat → Int32) → (Nat → Int32) → (Nat → Int32) → Prop} {x3 : Int32} {ch : Bool} {p q r : Nat} {F : Nat → Nat} (h1 : 1 ≤ n) (hn : n ≤ 7) (T : zy_T n (zt_N n) co pr ct cx) (hp : p < zt_N n) (hq : q < zt_N n) (hr : r < zt_N n) (hrq : zp_fn (zt_p n r) (zt_p n q) = true)
    (I : ∀ s, s < zt_N n → zp_fn (zt_p n p) (zt_p n s) = true → zp_fn (zt_p n s) (zt_p n q) = true → zt_n n r < zt_n n s → fo s = nI (F s))
    (K : J47 (nI (r + 1)) co pr ct cx (upd fo r (if r = p then 1 else cond ch (nI (zp_sm (zp_wc n ch p r) F (zt_N n))) (-nI (zp_sm (zp_wc n ch p r) F (zt_N n))))) el ro ot nu tw) :
    ∀ (N s : Nat), s ≤ zt_N n → zt_N n - s < N → wY_work_83 post J33 J47 (zb_b ch) (nI p) x3 (nI (zt_n n r)) (nI r) (nI n) (nI (zt_N n)) co pr ct cx fo el ro ot nu tw N (nI (zp_sm (zp_wc n ch p r) F s)) (nI s) := by
  have hN7 := zt_N_le h1 hn
  have key : ∀ y : Int32, y = cond ch (nI (zp_sm (zp_wc n ch p r) F (zt_N n))) (-nI (zp_sm (zp_wc n ch p r) F (zt_N n))) → wY_work_190 post J33 J47 (zb_b ch) (nI p) x3 (nI (zt_n n r)) (nI r) y (nI n) (nI (zt_N n)) co pr ct cx fo el ro ot nu tw := by
    intro y ey
    unfold wY_work_190
    rw [nI_clamp (by omega : r < 2 ^ 31)]
    refine pk_eq r p (fun w => ?_) (fun w => ?_)
    · rw [if_pos w] at K
      exact ⟨vp_in_nI (by omega) (by omega), nm_e (nm_r (nI_1 r) K)⟩
    · rw [if_neg w] at K
      rw [ey]
      exact ⟨vp_in_nI (by omega) (by omega), nm_e (nm_r (nI_1 r) K)⟩
  intro N
  induction N with
  | zero => intro s _ hN; omega
  | succ N ih =>
    intro s hs hN
    refine pk_le (zt_N n) s (fun z => ?_) (fun z => ?_)
    · have e1 : s = zt_N n := by omega
      rw [e1]
      cases ch
      · exact br_t rfl (nm_e (key _ rfl))
      · exact br_f zb_10 (key _ rfl)
    · have st := ih (s + 1) (by omega) (by omega)
      have ns := zt_nb h1 hn z
      have nr := zt_nb h1 hn hr
      rw [show zp_sm (zp_wc n ch p r) F (s + 1) = cond (zp_bf n ch r s && (zp_fn (zt_p n p) (zt_p n s) && zp_fn (zt_p n s) (zt_p n r))) (zp_sm (zp_wc n ch p r) F s + F s) (zp_sm (zp_wc n ch p r) F s) from rfl] at st
      have hbf : zp_bf n ch r s = true → zt_n n r < zt_n n s := by
        unfold zp_bf
        cases ch
        · intro h
          have := Nat.le_of_ble_eq_true h
          omega
        · intro h
          have := Nat.eq_of_beq_eq_true h
          omega
      have go : wY_work_135 post J33 J47 (wY_work_83 post J33 J47 (zb_b ch) (nI p) x3 (nI (zt_n n r)) (nI r) (nI n) (nI (zt_N n)) co pr ct cx fo el ro ot nu tw N) (zb_b ch) (nI p) x3 (nI (zt_n n r)) (nI r) (nI (zp_sm (zp_wc n ch p r) F s)) (nI s) (zb_b (zp_bf n ch r s)) (nI n) (nI (zt_N n)) co pr ct cx fo el ro ot nu tw :=
        zy_w135 h1 hn T hp hr z (fun a b c => I s z b (zp_fn_tr c hrq) (hbf a)) st
      cases ch
      · refine br_t rfl ?_
        rw [nI_clamp (by omega : s < 2 ^ 31), (T s z).2.2.1]
        refine ⟨vp_in_nI (by omega) (by omega), pk_le (zt_n n s) (zt_n n r) (fun w => ?_) (fun w => ?_)⟩
        · have hb : zp_bf n false r s = false := by
            cases y : zp_bf n false r s
            · rfl
            · have := hbf y; omega
          rw [hb] at go
          exact go
        · have hb : zp_bf n false r s = true := Nat.ble_eq_true_of_le (by omega)
          rw [hb] at go
          exact go
      · refine br_f zb_10 ?_
        rw [nI_clamp (by omega : s < 2 ^ 31), (T s z).2.2.1]
        refine ⟨vp_in_nI (by omega) (by omega), pk_eq (zt_n n s) (zt_n n r + 1) (fun w => ?_) (fun w => ?_) (hy := nI_1 _)⟩
        · have hb : zp_bf n true r s = true := by
            show Nat.beq (zt_n n s) (zt_n n r + 1) = true
            rw [w, Nat.beq_refl]
          rw [hb] at go
          exact go
        · have hb : zp_bf n true r s = false := zb_bq w
          rw [hb] at go
          exact go
/-- what has been found so far: all of the interval with more than b blocks, and with b blocks below r -/
def zy_I (n p q b r : Nat) (F : Nat → Nat) (fo : Nat → Int32) : Prop := ∀ s, s < zt_N n → zp_fn (zt_p n p) (zt_p n s) = true → zp_fn (zt_p n s) (zt_p n q) = true → (b < zt_n n s ∨ (zt_n n s = b ∧ s < r)) → fo s = nI (F s)
theorem zy_w47 {post : Int32 → SY → Prop} {J33 : Int32 → (Nat → Int32) → (Nat → Int32) → (Nat → Int32) → (Nat → Int32) → (Nat → Int32) → (Nat → Int32) → (Nat → Int32) → (Nat → Int32) → (Nat → Int32) → (Nat → Int32) → Prop} {ch : Bool} {p q b : Nat} {F : Nat → Nat} (h1 : 1 ≤ n) (hn : n ≤ 7) (T : zy_T n (zt_N n) co pr ct cx) (hp : p < zt_N n) (hq : q < zt_N n) (h0 : el 0 = nI p) (h01 : el 1 = nI q) (hb : 1 ≤ b) (hb7 : b ≤ 7)
    (HL : ∀ r, r < zt_N n → zp_fn (zt_p n p) (zt_p n r) = true → zp_fn (zt_p n r) (zt_p n q) = true → nI (F r) = if r = p then 1 else cond ch (nI (zp_sm (zp_wc n ch p r) F (zt_N n))) (-nI (zp_sm (zp_wc n ch p r) F (zt_N n))))
    (K : ∀ fo' : Nat → Int32, zy_I n p q (b - 1) 0 F fo' → J33 (nI (b - 1)) co pr ct cx fo' el ro ot nu tw) :
    ∀ (N r : Nat) (fo : Nat → Int32), r ≤ zt_N n → zt_N n - r < N → zy_I n p q b r F fo → wY_work_47 post J33 (zb_b ch) (nI p) (nI q) (nI b) (nI n) (nI (zt_N n)) N (nI r) co pr ct cx fo el ro ot nu tw := by
  have hN7 := zt_N_le h1 hn
  intro N
  induction N with
  | zero => intro r fo _ hN; omega
  | succ N ih =>
    intro r fo hr hN I
    refine pk_le (zt_N n) r (fun z => ?_) (fun z => ?_)
    · refine nm_r (zb_m1 hb) (K fo (fun s hs a c d => ?_))
      exact I s hs a c (by omega)
    · have nr := zt_nb h1 hn z
      have skip : (zt_n n r = b → (zp_fn (zt_p n p) (zt_p n r) && zp_fn (zt_p n r) (zt_p n q)) = false) → wY_work_47 post J33 (zb_b ch) (nI p) (nI q) (nI b) (nI n) (nI (zt_N n)) N (nI (r + 1)) co pr ct cx fo el ro ot nu tw := by
        intro hx
        refine ih (r + 1) fo (by omega) (by omega) (fun s hs a c d => ?_)
        refine I s hs a c ?_
        rcases d with d | ⟨d, d'⟩
        · exact Or.inl d
        · by_cases v : s = r
          · exfalso
            subst v
            have := hx d
            rw [a, c] at this
            exact absurd this (by decide)
          · exact Or.inr ⟨d, by omega⟩
      rw [nI_clamp (by omega : r < 2 ^ 31), (T r z).2.2.1]
      refine ⟨vp_in_nI (by omega) (by omega), pk_eq (zt_n n r) b (fun w => ?_) (fun w => ?_)⟩
      · refine zy_btw h1 hn T hp hq z h0 h01 ?_
        cases v : (zp_fn (zt_p n p) (zt_p n r) && zp_fn (zt_p n r) (zt_p n q))
        · exact br_t rfl (nm_r (nI_1 r) (skip (fun _ => v)))
        · rw [Bool.and_eq_true] at v
          refine br_f zb_10 ⟨zt_N n + 1, ?_⟩
          subst w
          refine zy_w83 h1 hn T hp hq z v.2 (fun s hs a c d => I s hs a c (Or.inl d)) ?_ (zt_N n + 1) 0 (by omega) (by omega)
          rw [← HL r z v.1 v.2]
          refine ih (r + 1) _ (by omega) (by omega) (fun s hs a c d => ?_)
          by_cases y : s = r
          · rw [y, pk_us]
          · rw [pk_un y]
            exact I s hs a c (by omega)
      · exact nm_r (nI_1 r) (skip (fun y => absurd y w))
theorem zy_w33 {post : Int32 → SY → Prop} {ch : Bool} {p q : Nat} {F : Nat → Nat} (h1 : 1 ≤ n) (hn : n ≤ 7) (T : zy_T n (zt_N n) co pr ct cx) (hp : p < zt_N n) (hq : q < zt_N n) (h0 : el 0 = nI p) (h01 : el 1 = nI q) (hpq : zp_fn (zt_p n p) (zt_p n q) = true)
    (HL : ∀ r, r < zt_N n → zp_fn (zt_p n p) (zt_p n r) = true → zp_fn (zt_p n r) (zt_p n q) = true → nI (F r) = if r = p then 1 else cond ch (nI (zp_sm (zp_wc n ch p r) F (zt_N n))) (-nI (zp_sm (zp_wc n ch p r) F (zt_N n))))
    (K : ∀ fo' : Nat → Int32, post (nI (F q)) (nI n, nI (zt_N n), co, pr, ct, cx, fo', el, ro, ot, nu, tw)) :
    ∀ (N b : Nat) (fo : Nat → Int32), b ≤ 7 → b < N → zt_n n q ≤ b + 1 → zy_I n p q b 0 F fo → wY_work_33 post (zb_b ch) (nI p) (nI q) (nI n) (nI (zt_N n)) N (nI b) co pr ct cx fo el ro ot nu tw := by
  have hN7 := zt_N_le h1 hn
  have nq := zt_nb h1 hn hq
  intro N
  induction N with
  | zero => intro b fo _ hN; omega
  | succ N ih =>
    intro b fo hb hN hqb I
    rw [wY_work_33]
    dsimp only
    rw [nI_clamp (by omega : q < 2 ^ 31), (T q hq).2.2.1]
    refine And.intro (vp_in_nI (by omega) (by omega)) (pk_lt b (zt_n n q) (fun z => ?_) (fun z => ?_))
    · rw [I q hq hpq (zp_fn_refl _) (Or.inl z)]
      exact And.intro (vp_in_nI (by omega) (by omega)) (K fo)
    · refine ⟨zt_N n + 1, zy_w47 h1 hn T hp hq h0 h01 (by omega) hb HL (fun fo' I' => ?_) (zt_N n + 1) 0 fo (by omega) (by omega) I⟩
      exact ih (b - 1) fo' (by omega) (by omega) (by omega) I'
theorem zy_work {post : Int32 → SY → Prop} {ch : Bool} {p q : Nat} {F : Nat → Nat} (h1 : 1 ≤ n) (hn : n ≤ 7) (T : zy_T n (zt_N n) co pr ct cx) (hp : p < zt_N n) (hq : q < zt_N n) (h0 : el 0 = nI p) (h01 : el 1 = nI q)
    (HL : ∀ r, r < zt_N n → zp_fn (zt_p n p) (zt_p n r) = true → zp_fn (zt_p n r) (zt_p n q) = true → nI (F r) = if r = p then 1 else cond ch (nI (zp_sm (zp_wc n ch p r) F (zt_N n))) (-nI (zp_sm (zp_wc n ch p r) F (zt_N n))))
    (K0 : zp_fn (zt_p n p) (zt_p n q) = false → post 0 (nI n, nI (zt_N n), co, pr, ct, cx, fo, el, ro, ot, nu, tw))
    (K : zp_fn (zt_p n p) (zt_p n q) = true → ∀ fo' : Nat → Int32, post (nI (F q)) (nI n, nI (zt_N n), co, pr, ct, cx, fo', el, ro, ot, nu, tw)) : wpY_work post (nI n, nI (zt_N n), co, pr, ct, cx, fo, el, ro, ot, nu, tw) (zb_b ch) := by
  have hN7 := zt_N_le h1 hn
  unfold wpY_work
  try dsimp only
  refine nm_r h0 (nm_r h01 ?_)
  refine zy_isf h1 hn T hp hq ?_
  cases w : zp_fn (zt_p n p) (zt_p n q)
  · exact br_t rfl (K0 w)
  · refine br_f zb_10 ?_
    have np := zt_nb h1 hn hp
    have hpq := zt_mono h1 hn hp hq w
    rw [nI_clamp (by omega : p < 2 ^ 31), (T p hp).2.2.1]
    refine ⟨vp_in_nI (by omega) (by omega), nm_e ⟨9, ?_⟩⟩
    refine zy_w33 h1 hn T hp hq h0 h01 w HL (K w) 9 (zt_n n p) fo np.2 (by omega) (by omega) (fun s hs a c d => ?_)
    have := zt_mono h1 hn hp hs a
    omega
end
end
section
/-! loops for the kernel -/
noncomputable def zk_all (p : Nat → Bool) (l : List Nat) : Bool := List.rec (motive := fun _ => Bool) true (fun h _ ih => cond (p h) ih false) l
noncomputable def zk_any (p : Nat → Bool) (l : List Nat) : Bool := List.rec (motive := fun _ => Bool) false (fun h _ ih => cond (p h) true ih) l
noncomputable def zk_cnt (p : Nat → Bool) (l : List Nat) : Nat := List.rec (motive := fun _ => Nat) 0 (fun h _ ih => cond (p h) (Nat.succ ih) ih) l
noncomputable def zk_frc (t : Nat) (k : Nat → Bool) : Bool := Nat.rec (motive := fun _ => Bool) (k 0) (fun m _ => k (Nat.succ m)) t
theorem zk_frc_e (t : Nat) (k : Nat → Bool) : zk_frc t k = k t := by cases t <;> rfl
theorem zk_cd2 {a b : Bool} (h : cond a b false = true) : a = true ∧ b = true := by
  cases a
  · exact absurd h Bool.false_ne_true
  · exact ⟨rfl, h⟩
theorem zk_all_i {p : Nat → Bool} {l : List Nat} (h : zk_all p l = true) : ∀ x, x ∈ l → p x = true := by
  induction l with
  | nil => intro x hx; exact absurd hx (List.not_mem_nil)
  | cons a l ih =>
    intro x hx
    obtain ⟨q, h'⟩ := zk_cd2 (a := p a) (b := zk_all p l) h
    rcases List.mem_cons.mp hx with z | z
    · rw [z]; exact q
    · exact ih h' x z
theorem zk_any_i {p : Nat → Bool} {l : List Nat} (h : zk_any p l = true) : ∃ x, x ∈ l ∧ p x = true := by
  induction l with
  | nil => exact absurd h Bool.false_ne_true
  | cons a l ih =>
    have h' : cond (p a) true (zk_any p l) = true := h
    cases q : p a
    · rw [q] at h'
      obtain ⟨x, hx, e⟩ := ih h'
      exact ⟨x, List.mem_cons_of_mem a hx, e⟩
    · exact ⟨a, List.mem_cons_self, q⟩
theorem zk_chunk {f : Nat → Bool} {T : List Nat} {w m : Nat} (hT : T.length ≤ w * m) (h : ∀ i, i < m → zk_all f ((T.drop (w * i)).take w) = true) : ∀ x, x ∈ T → f x = true := by
  intro x hx
  obtain ⟨k, hk⟩ := List.mem_iff_getElem?.mp hx
  have h1 : k < T.length := (List.getElem?_eq_some_iff.mp hk).1
  have hw : 0 < w := by
    rcases Nat.eq_zero_or_pos w with z | z
    · rw [z, Nat.zero_mul] at hT; omega
    · exact z
  have h2 : k / w < m := Nat.div_lt_of_lt_mul (by omega)
  have h3 := Nat.mod_lt k hw
  have h4 := Nat.div_add_mod k w
  refine zk_all_i (h (k / w) h2) x (List.mem_iff_getElem?.mpr ⟨k % w, ?_⟩)
  rw [List.getElem?_take_of_lt h3, List.getElem?_drop, h4]
  exact hk
/-! partition -/
def zk_pa (n : Nat) : List Nat → Nat → Bool
  | [], _ => true
  | r :: l, k => Nat.beq (zp_po n k n).2.2 (zk_c r) && zk_pa n l (k + 1)
theorem zk_pa_i {n : Nat} : ∀ {l : List Nat} {s : Nat}, zk_pa n l s = true → ∀ k r, l[k]? = some r → (zp_po n (s + k) n).2.2 = zk_c r := by
  intro l
  induction l with
  | nil => intro s _ k r h; exact absurd h (by simp)
  | cons a l ih =>
    intro s h k r hk
    simp only [zk_pa, Bool.and_eq_true, Nat.beq_eq] at h
    cases k with
    | zero =>
      have e : a = r := Option.some.inj hk
      rw [← e]; exact h.1
    | succ k =>
      have := ih h.2 k r hk
      rw [show s + (k + 1) = s + 1 + k by omega]
      exact this
theorem zk_pa_1 : (zk_pa 1 zk_T1 0 && Nat.beq (zp_wm 1 0) zk_T1.length) = true := by decide +kernel
theorem zk_pa_2 : (zk_pa 2 zk_T2 0 && Nat.beq (zp_wm 2 0) zk_T2.length) = true := by decide +kernel
theorem zk_pa_3 : (zk_pa 3 zk_T3 0 && Nat.beq (zp_wm 3 0) zk_T3.length) = true := by decide +kernel
theorem zk_pa_4 : (zk_pa 4 zk_T4 0 && Nat.beq (zp_wm 4 0) zk_T4.length) = true := by decide +kernel
theorem zk_pa_5 : (zk_pa 5 zk_T5 0 && Nat.beq (zp_wm 5 0) zk_T5.length) = true := by decide +kernel
theorem zk_pa_6 : (zk_pa 6 zk_T6 0 && Nat.beq (zp_wm 6 0) zk_T6.length) = true := by decide +kernel
theorem zk_pa_7 : (zk_pa 7 zk_T7 0 && Nat.beq (zp_wm 7 0) zk_T7.length) = true := by decide +kernel
theorem zt_part {n : Nat} (a : 1 ≤ n) (b : n ≤ 7) : zp_wm n 0 = zt_N n ∧ ∀ k, k < zt_N n → (zp_po n k n).2.2 = zt_c n k := by
  have h1 := zk_7 (P := fun n T => (zk_pa n T 0 && Nat.beq (zp_wm n 0) T.length) = true) zk_pa_1 zk_pa_2 zk_pa_3 zk_pa_4 zk_pa_5 zk_pa_6 zk_pa_7 a b
  rw [Bool.and_eq_true] at h1
  refine ⟨Nat.eq_of_beq_eq_true h1.2, fun k hk => ?_⟩
  have h2 := zk_pa_i h1.1 k _ (zt_get hk)
  rw [Nat.zero_add] at h2
  exact h2
/-! crossings: the component's turns -/
noncomputable def zk_cr (n r : Nat) : Bool := cond (zp_xa n (zp_dg (zk_c r)) 49) (Nat.beq (zk_x r) 1) (Nat.beq (zk_x r) 0)
theorem zk_cr_k1 : zk_all (zk_cr 1) zk_T1 = true := by decide +kernel
theorem zk_cr_1 : ∀ x, x ∈ zk_T1 → (zk_cr 1) x = true := zk_all_i zk_cr_k1
theorem zk_cr_k2 : zk_all (zk_cr 2) zk_T2 = true := by decide +kernel
theorem zk_cr_2 : ∀ x, x ∈ zk_T2 → (zk_cr 2) x = true := zk_all_i zk_cr_k2
theorem zk_cr_k3 : zk_all (zk_cr 3) zk_T3 = true := by decide +kernel
theorem zk_cr_3 : ∀ x, x ∈ zk_T3 → (zk_cr 3) x = true := zk_all_i zk_cr_k3
theorem zk_cr_k4 : zk_all (zk_cr 4) zk_T4 = true := by decide +kernel
theorem zk_cr_4 : ∀ x, x ∈ zk_T4 → (zk_cr 4) x = true := zk_all_i zk_cr_k4
theorem zk_cr_k5 : zk_all (zk_cr 5) zk_T5 = true := by decide +kernel
theorem zk_cr_5 : ∀ x, x ∈ zk_T5 → (zk_cr 5) x = true := zk_all_i zk_cr_k5
theorem zk_cr_k6 : zk_all (zk_cr 6) zk_T6 = true := by decide +kernel
theorem zk_cr_6 : ∀ x, x ∈ zk_T6 → (zk_cr 6) x = true := zk_all_i zk_cr_k6
theorem zk_cr_c0 : zk_all (zk_cr 7) ((zk_T7.drop 0).take 80) = true := by decide +kernel
theorem zk_cr_c1 : zk_all (zk_cr 7) ((zk_T7.drop 80).take 80) = true := by decide +kernel
theorem zk_cr_c2 : zk_all (zk_cr 7) ((zk_T7.drop 160).take 80) = true := by decide +kernel
theorem zk_cr_c3 : zk_all (zk_cr 7) ((zk_T7.drop 240).take 80) = true := by decide +kernel
theorem zk_cr_c4 : zk_all (zk_cr 7) ((zk_T7.drop 320).take 80) = true := by decide +kernel
theorem zk_cr_c5 : zk_all (zk_cr 7) ((zk_T7.drop 400).take 80) = true := by decide +kernel
theorem zk_cr_c6 : zk_all (zk_cr 7) ((zk_T7.drop 480).take 80) = true := by decide +kernel
theorem zk_cr_c7 : zk_all (zk_cr 7) ((zk_T7.drop 560).take 80) = true := by decide +kernel
theorem zk_cr_c8 : zk_all (zk_cr 7) ((zk_T7.drop 640).take 80) = true := by decide +kernel
theorem zk_cr_c9 : zk_all (zk_cr 7) ((zk_T7.drop 720).take 80) = true := by decide +kernel
theorem zk_cr_c10 : zk_all (zk_cr 7) ((zk_T7.drop 800).take 80) = true := by decide +kernel
theorem zk_cr_7 : ∀ x, x ∈ zk_T7 → (zk_cr 7) x = true := by
  refine zk_chunk (w := 80) (m := 11) (by have := Nat.eq_of_beq_eq_true zk_l7; omega) (fun i hi => ?_)
  have h : i = 0 ∨ i = 1 ∨ i = 2 ∨ i = 3 ∨ i = 4 ∨ i = 5 ∨ i = 6 ∨ i = 7 ∨ i = 8 ∨ i = 9 ∨ i = 10 := by omega
  rcases h with h | h | h | h | h | h | h | h | h | h | h
  · subst h; exact zk_cr_c0
  · subst h; exact zk_cr_c1
  · subst h; exact zk_cr_c2
  · subst h; exact zk_cr_c3
  · subst h; exact zk_cr_c4
  · subst h; exact zk_cr_c5
  · subst h; exact zk_cr_c6
  · subst h; exact zk_cr_c7
  · subst h; exact zk_cr_c8
  · subst h; exact zk_cr_c9
  · subst h; exact zk_cr_c10
theorem zt_crs {n k : Nat} (a : 1 ≤ n) (b : n ≤ 7) (h : k < zt_N n) : (zp_xa n (zp_dg (zt_c n k)) 49 = true → zt_x n k = 1) ∧ (zp_xa n (zp_dg (zt_c n k)) 49 = false → zt_x n k = 0) := by
  have h1 := zk_7 (P := fun n T => ∀ x, x ∈ T → zk_cr n x = true) zk_cr_1 zk_cr_2 zk_cr_3 zk_cr_4 zk_cr_5 zk_cr_6 zk_cr_7 a b
  have h2 := h1 _ (zt_mem h)
  have h3 : cond (zp_xa n (zp_dg (zt_c n k)) 49) (Nat.beq (zt_x n k) 1) (Nat.beq (zt_x n k) 0) = true := h2
  constructor
  · intro q; rw [q] at h3; exact Nat.eq_of_beq_eq_true h3
  · intro q; rw [q] at h3; exact Nat.eq_of_beq_eq_true h3
end
section
/-! uncross -/
def zk_u (n : Nat) : Nat → Nat → Nat
  | 0, c => c
  | f + 1, c => cond (zp_xa n (zp_dg c) 49) (zk_u n f (zp_rk n c 49)) c
theorem zp_xa_f {n : Nat} {f : Nat → Nat} : ∀ K, zp_xa n f K = false → ∀ k, k < K → zp_pq n f (k / 7) (k % 7) = false := by
  intro K
  induction K with
  | zero => intro _ k hk; exact absurd hk (Nat.not_lt_zero k)
  | succ K ih =>
    intro h k hk
    have h' : (zp_xa n f K || zp_pq n f (K / 7) (K % 7)) = false := h
    rw [Bool.or_eq_false_iff] at h'
    rcases Nat.lt_or_ge k K with z | z
    · exact ih h'.1 k z
    · have e : k = K := by omega
      rw [e]; exact h'.2
theorem zp_rk_n {n c : Nat} (h : zp_xa n (zp_dg c) 49 = false) : ∀ k, k ≤ 49 → zp_rk n c k = c := by
  intro k
  induction k with
  | zero => intro _; rfl
  | succ k ih =>
    intro hk
    show zp_r1 n (zp_rk n c k) k = c
    rw [ih (by omega)]
    unfold zp_r1
    rw [zp_xa_f 49 h k (by omega)]
    rfl
theorem zp_ux_s (n c : Nat) : ∀ r, zp_ux n c (r + 1) = zp_ux n (zp_rk n c 49) r := by
  intro r
  induction r with
  | zero => rfl
  | succ r ih =>
    show zp_rk n (zp_ux n c (r + 1)) 49 = zp_rk n (zp_ux n (zp_rk n c 49) r) 49
    rw [ih]
theorem zp_ux_n {n c : Nat} (h : zp_xa n (zp_dg c) 49 = false) : ∀ r, zp_ux n c r = c := by
  intro r
  induction r with
  | zero => rfl
  | succ r ih =>
    show zp_rk n (zp_ux n c r) 49 = c
    rw [ih]
    exact zp_rk_n h 49 (Nat.le_refl 49)
theorem zk_u_e (n : Nat) : ∀ f c, zk_u n f c = zp_ux n c f := by
  intro f
  induction f with
  | zero => intro c; rfl
  | succ f ih =>
    intro c
    show cond (zp_xa n (zp_dg c) 49) (zk_u n f (zp_rk n c 49)) c = _
    cases q : zp_xa n (zp_dg c) 49
    · rw [zp_ux_n q]; rfl
    · rw [zp_ux_s, ← ih]; rfl
noncomputable def zk_un1 (T : List Nat) (e t : Nat) : Bool := zk_any (fun K => cond (Nat.beq (zk_p K) t) (cond (Nat.beq (zk_x K) 0) (cond (zp_fn (zk_p e) t) (zk_all (fun k => cond (Nat.beq (zk_x k) 0) (cond (zp_fn (zk_p e) (zk_p k)) (cond (Nat.beq k K) true (Nat.ble (Nat.succ (zk_n k)) (zk_n K))) true) true) T) false) false) false) T
noncomputable def zk_un (n : Nat) (T : List Nat) (e : Nat) : Bool := zk_frc (zp_tg n (zp_dg (zk_u n 7 (zk_c e)))) (zk_un1 T e)
theorem zk_un_k1 : zk_all (zk_un 1 zk_T1) zk_T1 = true := by decide +kernel
theorem zk_un_1 : ∀ x, x ∈ zk_T1 → (zk_un 1 zk_T1) x = true := zk_all_i zk_un_k1
theorem zk_un_k2 : zk_all (zk_un 2 zk_T2) zk_T2 = true := by decide +kernel
theorem zk_un_2 : ∀ x, x ∈ zk_T2 → (zk_un 2 zk_T2) x = true := zk_all_i zk_un_k2
theorem zk_un_k3 : zk_all (zk_un 3 zk_T3) zk_T3 = true := by decide +kernel
theorem zk_un_3 : ∀ x, x ∈ zk_T3 → (zk_un 3 zk_T3) x = true := zk_all_i zk_un_k3
theorem zk_un_k4 : zk_all (zk_un 4 zk_T4) zk_T4 = true := by decide +kernel
theorem zk_un_4 : ∀ x, x ∈ zk_T4 → (zk_un 4 zk_T4) x = true := zk_all_i zk_un_k4
theorem zk_un_k5 : zk_all (zk_un 5 zk_T5) zk_T5 = true := by decide +kernel
theorem zk_un_5 : ∀ x, x ∈ zk_T5 → (zk_un 5 zk_T5) x = true := zk_all_i zk_un_k5
theorem zk_un_k6 : zk_all (zk_un 6 zk_T6) zk_T6 = true := by decide +kernel
theorem zk_un_6 : ∀ x, x ∈ zk_T6 → (zk_un 6 zk_T6) x = true := zk_all_i zk_un_k6
theorem zk_un_c0 : zk_all (zk_un 7 zk_T7) ((zk_T7.drop 0).take 80) = true := by decide +kernel
theorem zk_un_c1 : zk_all (zk_un 7 zk_T7) ((zk_T7.drop 80).take 80) = true := by decide +kernel
theorem zk_un_c2 : zk_all (zk_un 7 zk_T7) ((zk_T7.drop 160).take 80) = true := by decide +kernel
theorem zk_un_c3 : zk_all (zk_un 7 zk_T7) ((zk_T7.drop 240).take 80) = true := by decide +kernel
theorem zk_un_c4 : zk_all (zk_un 7 zk_T7) ((zk_T7.drop 320).take 80) = true := by decide +kernel
theorem zk_un_c5 : zk_all (zk_un 7 zk_T7) ((zk_T7.drop 400).take 80) = true := by decide +kernel
theorem zk_un_c6 : zk_all (zk_un 7 zk_T7) ((zk_T7.drop 480).take 80) = true := by decide +kernel
theorem zk_un_c7 : zk_all (zk_un 7 zk_T7) ((zk_T7.drop 560).take 80) = true := by decide +kernel
theorem zk_un_c8 : zk_all (zk_un 7 zk_T7) ((zk_T7.drop 640).take 80) = true := by decide +kernel
theorem zk_un_c9 : zk_all (zk_un 7 zk_T7) ((zk_T7.drop 720).take 80) = true := by decide +kernel
theorem zk_un_c10 : zk_all (zk_un 7 zk_T7) ((zk_T7.drop 800).take 80) = true := by decide +kernel
theorem zk_un_7 : ∀ x, x ∈ zk_T7 → (zk_un 7 zk_T7) x = true := by
  refine zk_chunk (w := 80) (m := 11) (by have := Nat.eq_of_beq_eq_true zk_l7; omega) (fun i hi => ?_)
  have h : i = 0 ∨ i = 1 ∨ i = 2 ∨ i = 3 ∨ i = 4 ∨ i = 5 ∨ i = 6 ∨ i = 7 ∨ i = 8 ∨ i = 9 ∨ i = 10 := by omega
  rcases h with h | h | h | h | h | h | h | h | h | h | h
  · subst h; exact zk_un_c0
  · subst h; exact zk_un_c1
  · subst h; exact zk_un_c2
  · subst h; exact zk_un_c3
  · subst h; exact zk_un_c4
  · subst h; exact zk_un_c5
  · subst h; exact zk_un_c6
  · subst h; exact zk_un_c7
  · subst h; exact zk_un_c8
  · subst h; exact zk_un_c9
  · subst h; exact zk_un_c10
theorem zt_unc {n e : Nat} (a : 1 ≤ n) (b : n ≤ 7) (h : e < zt_N n) : ∃ B, B < zt_N n ∧ zt_p n B = zp_tg n (zp_dg (zp_ux n (zt_c n e) 7)) ∧ zt_x n B = 0 ∧ zp_fn (zt_p n e) (zt_p n B) = true ∧ ∀ k, k < zt_N n → zt_x n k = 0 → zp_fn (zt_p n e) (zt_p n k) = true → zt_n n k < zt_n n B ∨ k = B := by
  have h1 := zk_7 (P := fun n T => ∀ x, x ∈ T → zk_un n T x = true) zk_un_1 zk_un_2 zk_un_3 zk_un_4 zk_un_5 zk_un_6 zk_un_7 a b
  have h2 := h1 _ (zt_mem h)
  unfold zk_un at h2
  rw [zk_frc_e, zk_u_e] at h2
  obtain ⟨K, hK, q⟩ := zk_any_i h2
  obtain ⟨q1, q⟩ := zk_cd2 q
  obtain ⟨q2, q⟩ := zk_cd2 q
  obtain ⟨q3, q⟩ := zk_cd2 q
  obtain ⟨B, hB, eB⟩ := zt_ix hK
  subst eB
  have p1 := Nat.eq_of_beq_eq_true q1
  refine ⟨B, hB, p1, Nat.eq_of_beq_eq_true q2, ?_, fun k hk x f => ?_⟩
  · have : zt_p n B = _ := p1
    rw [this]; exact q3
  · have q5 := zk_all_i q _ (zt_mem hk)
    have x' : Nat.beq (zk_x (zt_r n k)) 0 = true := by
      have : zk_x (zt_r n k) = 0 := x
      rw [this]
      decide
    have f' : zp_fn (zk_p (zt_r n e)) (zk_p (zt_r n k)) = true := f
    rw [x', f'] at q5
    have q6 : cond (Nat.beq (zt_r n k) (zt_r n B)) true (Nat.ble (Nat.succ (zt_n n k)) (zt_n n B)) = true := q5
    cases w : Nat.beq (zt_r n k) (zt_r n B)
    · rw [w] at q6
      exact Or.inl (Nat.le_of_ble_eq_true q6)
    · refine Or.inr (zt_inj a b hk hB ?_)
      have := Nat.eq_of_beq_eq_true w
      unfold zt_c
      rw [this]
end
section
/-! complement: what may lie beside one another -/
def zp_al (n : Nat) (f : Nat → Nat) (i j : Nat) : Bool := (List.range n).all fun x => cond (Nat.ble (i + 1) x && Nat.ble x j) ((List.range n).all fun y => cond (Nat.ble (i + 1) y && Nat.ble y j) true (!Nat.beq (f x) (f y))) true
theorem zp_al_iff {n : Nat} {f : Nat → Nat} {i j : Nat} : zp_al n f i j = true ↔ ∀ x y, x < n → y < n → i < x → x ≤ j → f x = f y → i < y ∧ y ≤ j := by
  unfold zp_al
  rw [List.all_eq_true]
  constructor
  · intro h x y hx hy h1 h2 e
    have h3 := h x (List.mem_range.mpr hx)
    rw [Nat.ble_eq_true_of_le (by omega), Nat.ble_eq_true_of_le h2] at h3
    have h4 := List.all_eq_true.mp h3 y (List.mem_range.mpr hy)
    cases q : (Nat.ble (i + 1) y && Nat.ble y j)
    · rw [q, e, Nat.beq_refl] at h4
      exact absurd h4 Bool.false_ne_true
    · rw [Bool.and_eq_true] at q
      exact ⟨Nat.le_of_ble_eq_true q.1, Nat.le_of_ble_eq_true q.2⟩
  · intro h x hx
    rw [List.mem_range] at hx
    cases q : (Nat.ble (i + 1) x && Nat.ble x j)
    · rfl
    · rw [Bool.and_eq_true] at q
      show ((List.range n).all fun y => cond (Nat.ble (i + 1) y && Nat.ble y j) true (!Nat.beq (f x) (f y))) = true
      rw [List.all_eq_true]
      intro y hy
      rw [List.mem_range] at hy
      cases w : (Nat.ble (i + 1) y && Nat.ble y j)
      · have hne : f x ≠ f y := by
          intro e
          obtain ⟨a, b⟩ := h x y hx hy (Nat.le_of_ble_eq_true q.1) (Nat.le_of_ble_eq_true q.2) e
          rw [Nat.ble_eq_true_of_le a, Nat.ble_eq_true_of_le b] at w
          exact absurd w (by decide)
        rw [zb_bq hne]
        rfl
      · rfl
def zp_A (n : Nat) (f : Nat → Nat) : Nat := zp_bs ((zp_pl n n).map (fun p => zp_al n f p.1 p.2))
theorem zp_A_fn {n : Nat} {f g : Nat → Nat} : zp_fn (zp_tg n g) (zp_A n f) = true ↔ ∀ i j, i < j → j < n → g i = g j → zp_al n f i j = true := by
  unfold zp_tg zp_A
  rw [zp_fn_bs]
  constructor
  · intro h i j h1 h2 e
    exact h (i, j) (zp_pl_mem.mpr ⟨h1, h2⟩) (by rw [Nat.beq_eq]; exact e)
  · intro h x hx e
    obtain ⟨a, b⟩ := x
    have hm := zp_pl_mem.mp hx
    rw [Nat.beq_eq] at e
    exact h a b hm.1 hm.2 e
theorem zp_il_e (f g : Nat → Nat) (i : Nat) : zp_il f g (2 * i) = f i := by
  unfold zp_il
  rw [if_pos (by omega)]
  exact congrArg f (by omega)
theorem zp_il_o (f g : Nat → Nat) (i : Nat) : zp_il f g (2 * i + 1) = 8 + g i := by
  unfold zp_il
  rw [if_neg (by omega)]
  exact congrArg (fun t => 8 + g t) (by omega)
theorem zp_ev (x : Nat) : (∃ i, x = 2 * i) ∨ (∃ i, x = 2 * i + 1) := by
  have h : x % 2 = 0 ∨ x % 2 = 1 := by omega
  rcases h with h | h
  · exact Or.inl ⟨x / 2, by omega⟩
  · exact Or.inr ⟨x / 2, by omega⟩
theorem zp_va {n : Nat} {f g : Nat → Nat} (hf : ∀ i, i < n → f i < 8) : zp_cb (2 * n) (zp_il f g) = false ↔ (zp_cb n f = false ∧ zp_cb n g = false ∧ ∀ i j, i < j → j < n → g i = g j → zp_al n f i j = true) := by
  have key : zp_ca (2 * n) (zp_il f g) ↔ (zp_ca n f ∨ zp_ca n g ∨ ∃ i j, i < j ∧ j < n ∧ g i = g j ∧ ¬ zp_al n f i j = true) := by
    constructor
    · intro ⟨a, b, c, d, h1, h2, h3, h4, h5, h6, h7⟩
      rcases zp_ev a with ⟨a, rfl⟩ | ⟨a, rfl⟩ <;> rcases zp_ev b with ⟨b, rfl⟩ | ⟨b, rfl⟩ <;> rcases zp_ev c with ⟨c, rfl⟩ | ⟨c, rfl⟩ <;> rcases zp_ev d with ⟨d, rfl⟩ | ⟨d, rfl⟩ <;> simp only [zp_il_e, zp_il_o] at h5 h6 h7
      · exact Or.inl ⟨a, b, c, d, by omega, by omega, by omega, by omega, h5, h6, h7⟩
      · have := hf b (by omega); omega
      · have := hf a (by omega); omega
      · have := hf a (by omega); omega
      · have := hf d (by omega); omega
      · refine Or.inr (Or.inr ⟨b, d, by omega, by omega, by omega, fun q => ?_⟩)
        have := zp_al_iff.mp q c a (by omega) (by omega) (by omega) (by omega) h5.symm
        omega
      · have := hf d (by omega); omega
      · have := hf a (by omega); omega
      · have := hf c (by omega); omega
      · have := hf b (by omega); omega
      · refine Or.inr (Or.inr ⟨a, c, by omega, by omega, by omega, fun q => ?_⟩)
        have := zp_al_iff.mp q b d (by omega) (by omega) (by omega) (by omega) h6
        omega
      · have := hf b (by omega); omega
      · have := hf c (by omega); omega
      · have := hf c (by omega); omega
      · have := hf d (by omega); omega
      · exact Or.inr (Or.inl ⟨a, b, c, d, by omega, by omega, by omega, by omega, by omega, by omega, by omega⟩)
    · intro h
      rcases h with ⟨a, b, c, d, h1, h2, h3, h4, h5, h6, h7⟩ | ⟨a, b, c, d, h1, h2, h3, h4, h5, h6, h7⟩ | ⟨i, j, h1, h2, h3, h4⟩
      · refine ⟨2 * a, 2 * b, 2 * c, 2 * d, by omega, by omega, by omega, by omega, ?_⟩
        rw [zp_il_e, zp_il_e, zp_il_e, zp_il_e]
        exact ⟨h5, h6, h7⟩
      · refine ⟨2 * a + 1, 2 * b + 1, 2 * c + 1, 2 * d + 1, by omega, by omega, by omega, by omega, ?_⟩
        rw [zp_il_o, zp_il_o, zp_il_o, zp_il_o]
        omega
      · have h5 : ∃ x y, x < n ∧ y < n ∧ i < x ∧ x ≤ j ∧ f x = f y ∧ ¬ (i < y ∧ y ≤ j) := by
          apply Classical.byContradiction
          intro w
          apply h4
          rw [zp_al_iff]
          intro x y hx hy a b e
          apply Classical.byContradiction
          intro v
          exact w ⟨x, y, hx, hy, a, b, e, v⟩
        obtain ⟨x, y, hx, hy, a, b, e, v⟩ := h5
        have fx := hf x hx
        have fy := hf y hy
        by_cases w : y ≤ i
        · refine ⟨2 * y, 2 * i + 1, 2 * x, 2 * j + 1, by omega, by omega, by omega, by omega, ?_⟩
          rw [zp_il_e, zp_il_e, zp_il_o, zp_il_o]
          omega
        · refine ⟨2 * i + 1, 2 * x, 2 * j + 1, 2 * y, by omega, by omega, by omega, by omega, ?_⟩
          rw [zp_il_e, zp_il_e, zp_il_o, zp_il_o]
          omega
  have bf : ∀ {m : Nat} {t : Nat → Nat}, zp_cb m t = false ↔ ¬ zp_ca m t := by
    intro m t
    rw [← zp_cb_iff]
    cases zp_cb m t
    · exact ⟨fun _ h => absurd h (by decide), fun _ => rfl⟩
    · exact ⟨fun h => absurd h (by decide), fun h => absurd rfl h⟩
  rw [bf, bf, bf, key]
  constructor
  · intro h
    refine ⟨fun a => h (Or.inl a), fun a => h (Or.inr (Or.inl a)), fun i j a b c => ?_⟩
    apply Classical.byContradiction
    intro w
    exact h (Or.inr (Or.inr ⟨i, j, a, b, c, w⟩))
  · intro ⟨a, b, c⟩ h
    rcases h with h | h | ⟨i, j, h1, h2, h3, h4⟩
    · exact a h
    · exact b h
    · exact h4 (c i j h1 h2 h3)
noncomputable def zk_co1 (T : List Nat) (t : Nat) : Bool := zk_any (fun K => cond (Nat.beq (zk_p K) t) (cond (Nat.beq (zk_x K) 0) (zk_all (fun k => cond (Nat.beq (zk_x k) 0) (cond (zp_fn (zk_p k) t) (cond (Nat.beq k K) true (Nat.ble (Nat.succ (zk_n K)) (zk_n k))) true) true) T) false) false) T
noncomputable def zk_co (n : Nat) (T : List Nat) (e : Nat) : Bool := cond (Nat.beq (zk_x e) 0) (zk_frc (zp_tg n (zp_dg (zp_cp (zp_dg (zk_c e)) n n).1)) (fun t => cond (Nat.beq (zp_A n (zp_dg (zk_c e))) t) (zk_co1 T t) false)) true
theorem zk_co_k1 : zk_all (zk_co 1 zk_T1) zk_T1 = true := by decide +kernel
theorem zk_co_1 : ∀ x, x ∈ zk_T1 → (zk_co 1 zk_T1) x = true := zk_all_i zk_co_k1
theorem zk_co_k2 : zk_all (zk_co 2 zk_T2) zk_T2 = true := by decide +kernel
theorem zk_co_2 : ∀ x, x ∈ zk_T2 → (zk_co 2 zk_T2) x = true := zk_all_i zk_co_k2
theorem zk_co_k3 : zk_all (zk_co 3 zk_T3) zk_T3 = true := by decide +kernel
theorem zk_co_3 : ∀ x, x ∈ zk_T3 → (zk_co 3 zk_T3) x = true := zk_all_i zk_co_k3
theorem zk_co_k4 : zk_all (zk_co 4 zk_T4) zk_T4 = true := by decide +kernel
theorem zk_co_4 : ∀ x, x ∈ zk_T4 → (zk_co 4 zk_T4) x = true := zk_all_i zk_co_k4
theorem zk_co_k5 : zk_all (zk_co 5 zk_T5) zk_T5 = true := by decide +kernel
theorem zk_co_5 : ∀ x, x ∈ zk_T5 → (zk_co 5 zk_T5) x = true := zk_all_i zk_co_k5
theorem zk_co_k6 : zk_all (zk_co 6 zk_T6) zk_T6 = true := by decide +kernel
theorem zk_co_6 : ∀ x, x ∈ zk_T6 → (zk_co 6 zk_T6) x = true := zk_all_i zk_co_k6
theorem zk_co_c0 : zk_all (zk_co 7 zk_T7) ((zk_T7.drop 0).take 80) = true := by decide +kernel
theorem zk_co_c1 : zk_all (zk_co 7 zk_T7) ((zk_T7.drop 80).take 80) = true := by decide +kernel
theorem zk_co_c2 : zk_all (zk_co 7 zk_T7) ((zk_T7.drop 160).take 80) = true := by decide +kernel
theorem zk_co_c3 : zk_all (zk_co 7 zk_T7) ((zk_T7.drop 240).take 80) = true := by decide +kernel
theorem zk_co_c4 : zk_all (zk_co 7 zk_T7) ((zk_T7.drop 320).take 80) = true := by decide +kernel
theorem zk_co_c5 : zk_all (zk_co 7 zk_T7) ((zk_T7.drop 400).take 80) = true := by decide +kernel
theorem zk_co_c6 : zk_all (zk_co 7 zk_T7) ((zk_T7.drop 480).take 80) = true := by decide +kernel
theorem zk_co_c7 : zk_all (zk_co 7 zk_T7) ((zk_T7.drop 560).take 80) = true := by decide +kernel
theorem zk_co_c8 : zk_all (zk_co 7 zk_T7) ((zk_T7.drop 640).take 80) = true := by decide +kernel
theorem zk_co_c9 : zk_all (zk_co 7 zk_T7) ((zk_T7.drop 720).take 80) = true := by decide +kernel
theorem zk_co_c10 : zk_all (zk_co 7 zk_T7) ((zk_T7.drop 800).take 80) = true := by decide +kernel
theorem zk_co_7 : ∀ x, x ∈ zk_T7 → (zk_co 7 zk_T7) x = true := by
  refine zk_chunk (w := 80) (m := 11) (by have := Nat.eq_of_beq_eq_true zk_l7; omega) (fun i hi => ?_)
  have h : i = 0 ∨ i = 1 ∨ i = 2 ∨ i = 3 ∨ i = 4 ∨ i = 5 ∨ i = 6 ∨ i = 7 ∨ i = 8 ∨ i = 9 ∨ i = 10 := by omega
  rcases h with h | h | h | h | h | h | h | h | h | h | h
  · subst h; exact zk_co_c0
  · subst h; exact zk_co_c1
  · subst h; exact zk_co_c2
  · subst h; exact zk_co_c3
  · subst h; exact zk_co_c4
  · subst h; exact zk_co_c5
  · subst h; exact zk_co_c6
  · subst h; exact zk_co_c7
  · subst h; exact zk_co_c8
  · subst h; exact zk_co_c9
  · subst h; exact zk_co_c10
theorem zt_cbx {n k : Nat} (a : 1 ≤ n) (b : n ≤ 7) (h : k < zt_N n) : zt_x n k = 0 ↔ zp_cb n (zp_dg (zt_c n k)) = false := by
  rw [(zt_all a b h).2.2]
  cases zp_cb n (zp_dg (zt_c n k))
  · exact ⟨fun _ => rfl, fun _ => rfl⟩
  · exact ⟨fun h => absurd h (by decide), fun h => absurd h (by decide)⟩
theorem zt_cmp {n e : Nat} (a : 1 ≤ n) (b : n ≤ 7) (h : e < zt_N n) (x : zt_x n e = 0) : ∃ B, B < zt_N n ∧ zt_p n B = zp_tg n (zp_dg (zp_cp (zp_dg (zt_c n e)) n n).1) ∧ zp_cb (2 * n) (zp_il (zp_dg (zt_c n e)) (zp_dg (zt_c n B))) = false ∧ (∀ k, k < zt_N n → zp_cb (2 * n) (zp_il (zp_dg (zt_c n e)) (zp_dg (zt_c n k))) = false → zt_n n B < zt_n n k ∨ k = B) ∧ zp_cb (2 * n) (zp_il (zp_dg (zt_c n e)) (zp_dg (zt_c n (zt_N n - 1)))) = false := by
  have hN7 := zt_N_le a b
  have h1 := zk_7 (P := fun n T => ∀ x, x ∈ T → zk_co n T x = true) zk_co_1 zk_co_2 zk_co_3 zk_co_4 zk_co_5 zk_co_6 zk_co_7 a b
  have h2 := h1 _ (zt_mem h)
  unfold zk_co at h2
  have x0 : zk_x (zt_r n e) = 0 := x
  rw [x0, zk_frc_e] at h2
  obtain ⟨h3, h2⟩ := zk_cd2 (h2 : cond (Nat.beq (zp_A n (zp_dg (zk_c (zt_r n e)))) (zp_tg n (zp_dg (zp_cp (zp_dg (zk_c (zt_r n e))) n n).1))) (zk_co1 (zk_T n) (zp_tg n (zp_dg (zp_cp (zp_dg (zk_c (zt_r n e))) n n).1))) false = true)
  have hA : zp_A n (zp_dg (zt_c n e)) = zp_tg n (zp_dg (zp_cp (zp_dg (zt_c n e)) n n).1) := Nat.eq_of_beq_eq_true h3
  obtain ⟨K, hK, q⟩ := zk_any_i h2
  obtain ⟨q1, q⟩ := zk_cd2 q
  obtain ⟨q2, q⟩ := zk_cd2 q
  obtain ⟨B, hB, eB⟩ := zt_ix hK
  subst eB
  have p1 : zt_p n B = zp_tg n (zp_dg (zp_cp (zp_dg (zt_c n e)) n n).1) := Nat.eq_of_beq_eq_true q1
  have xB : zt_x n B = 0 := Nat.eq_of_beq_eq_true q2
  have hf : ∀ i, i < n → zp_dg (zt_c n e) i < 8 := fun i _ => zp_dg_lt _ i
  have ce := (zt_cbx a b h).mp x
  refine ⟨B, hB, p1, ?_, ?_, ?_⟩
  · rw [zp_va hf]
    refine ⟨ce, (zt_cbx a b hB).mp xB, zp_A_fn.mp ?_⟩
    rw [hA, ← (zt_all a b hB).1, p1]
    exact zp_fn_refl _
  · intro k hk v
    rw [zp_va hf] at v
    obtain ⟨_, v2, v3⟩ := v
    have f1 := zp_A_fn.mpr v3
    rw [hA, ← (zt_all a b hk).1] at f1
    have q5 := zk_all_i q _ (zt_mem hk)
    have xk : zk_x (zt_r n k) = 0 := (zt_cbx a b hk).mpr v2
    have f' : zp_fn (zk_p (zt_r n k)) (zp_tg n (zp_dg (zp_cp (zp_dg (zk_c (zt_r n e))) n n).1)) = true := f1
    rw [xk, f'] at q5
    have q6 : cond (Nat.beq (zt_r n k) (zt_r n B)) true (Nat.ble (Nat.succ (zt_n n B)) (zt_n n k)) = true := q5
    cases w : Nat.beq (zt_r n k) (zt_r n B)
    · rw [w] at q6
      exact Or.inl (Nat.le_of_ble_eq_true q6)
    · refine Or.inr (zt_inj a b hk hB ?_)
      have := Nat.eq_of_beq_eq_true w
      unfold zt_c
      rw [this]
  · have hl := (zt_chain a b).2.1
    have hd : ∀ i, i < n → zp_dg (zt_c n (zt_N n - 1)) i = i := fun i hi => by
      rw [hl]
      exact zp_dg_en (f := fun j => j) n (fun j hj => by show j < 8; omega) i hi
    rw [zp_va hf]
    refine ⟨ce, ?_, ?_⟩
    · cases q : zp_cb n (zp_dg (zt_c n (zt_N n - 1)))
      · rfl
      · exfalso
        obtain ⟨i, j, k, l, g1, g2, g3, g4, g5, g6, g7⟩ := zp_cb_iff.mp q
        rw [hd i (by omega), hd k (by omega)] at g5
        omega
    · intro i j g1 g2 g3
      rw [hd i (by omega), hd j g2] at g3
      omega
end
section
/-! counts by places and by the list -/
theorem zp_cn_s (c : Nat → Bool) : ∀ N, zp_cn c (N + 1) = (cond (c 0) 1 0) + zp_cn (fun k => c (k + 1)) N := by
  intro N
  induction N with
  | zero =>
    show cond (c 0) (0 + 1) 0 = cond (c 0) 1 0 + 0
    cases c 0 <;> rfl
  | succ N ih =>
    show cond (c (N + 1)) (zp_cn c (N + 1) + 1) (zp_cn c (N + 1)) = cond (c 0) 1 0 + cond (c (N + 1)) (zp_cn (fun k => c (k + 1)) N + 1) (zp_cn (fun k => c (k + 1)) N)
    rw [ih]
    cases c (N + 1)
    · rfl
    · show cond (c 0) 1 0 + zp_cn (fun k => c (k + 1)) N + 1 = cond (c 0) 1 0 + (zp_cn (fun k => c (k + 1)) N + 1)
      omega
theorem zp_cn_l (p : Nat → Bool) : ∀ l : List Nat, zp_cn (fun k => p (l.getD k 0)) l.length = zk_cnt p l := by
  intro l
  induction l with
  | nil => rfl
  | cons a l ih =>
    rw [List.length_cons, zp_cn_s]
    show cond (p a) 1 0 + zp_cn (fun k => p (l.getD k 0)) l.length = cond (p a) (Nat.succ (zk_cnt p l)) (zk_cnt p l)
    rw [ih]
    cases p a
    · show 0 + zk_cnt p l = zk_cnt p l; omega
    · show 1 + zk_cnt p l = zk_cnt p l + 1; omega
/-! uncrossed -/
noncomputable def zk_ur (n : Nat) (T : List Nat) (e : Nat) : Bool := cond (Nat.beq (zk_x e) 0) (Nat.beq (zk_cnt (fun k => Nat.beq (zk_x k) 0 && zp_fn (zk_p k) (zk_p e)) T) (zp_uu (zp_dg (zk_c e)) n (zk_n e))) true
theorem zk_ur_k1 : zk_all (zk_ur 1 zk_T1) zk_T1 = true := by decide +kernel
theorem zk_ur_1 : ∀ x, x ∈ zk_T1 → (zk_ur 1 zk_T1) x = true := zk_all_i zk_ur_k1
theorem zk_ur_k2 : zk_all (zk_ur 2 zk_T2) zk_T2 = true := by decide +kernel
theorem zk_ur_2 : ∀ x, x ∈ zk_T2 → (zk_ur 2 zk_T2) x = true := zk_all_i zk_ur_k2
theorem zk_ur_k3 : zk_all (zk_ur 3 zk_T3) zk_T3 = true := by decide +kernel
theorem zk_ur_3 : ∀ x, x ∈ zk_T3 → (zk_ur 3 zk_T3) x = true := zk_all_i zk_ur_k3
theorem zk_ur_k4 : zk_all (zk_ur 4 zk_T4) zk_T4 = true := by decide +kernel
theorem zk_ur_4 : ∀ x, x ∈ zk_T4 → (zk_ur 4 zk_T4) x = true := zk_all_i zk_ur_k4
theorem zk_ur_k5 : zk_all (zk_ur 5 zk_T5) zk_T5 = true := by decide +kernel
theorem zk_ur_5 : ∀ x, x ∈ zk_T5 → (zk_ur 5 zk_T5) x = true := zk_all_i zk_ur_k5
theorem zk_ur_k6 : zk_all (zk_ur 6 zk_T6) zk_T6 = true := by decide +kernel
theorem zk_ur_6 : ∀ x, x ∈ zk_T6 → (zk_ur 6 zk_T6) x = true := zk_all_i zk_ur_k6
theorem zk_ur_c0 : zk_all (zk_ur 7 zk_T7) ((zk_T7.drop 0).take 80) = true := by decide +kernel
theorem zk_ur_c1 : zk_all (zk_ur 7 zk_T7) ((zk_T7.drop 80).take 80) = true := by decide +kernel
theorem zk_ur_c2 : zk_all (zk_ur 7 zk_T7) ((zk_T7.drop 160).take 80) = true := by decide +kernel
theorem zk_ur_c3 : zk_all (zk_ur 7 zk_T7) ((zk_T7.drop 240).take 80) = true := by decide +kernel
theorem zk_ur_c4 : zk_all (zk_ur 7 zk_T7) ((zk_T7.drop 320).take 80) = true := by decide +kernel
theorem zk_ur_c5 : zk_all (zk_ur 7 zk_T7) ((zk_T7.drop 400).take 80) = true := by decide +kernel
theorem zk_ur_c6 : zk_all (zk_ur 7 zk_T7) ((zk_T7.drop 480).take 80) = true := by decide +kernel
theorem zk_ur_c7 : zk_all (zk_ur 7 zk_T7) ((zk_T7.drop 560).take 80) = true := by decide +kernel
theorem zk_ur_c8 : zk_all (zk_ur 7 zk_T7) ((zk_T7.drop 640).take 80) = true := by decide +kernel
theorem zk_ur_c9 : zk_all (zk_ur 7 zk_T7) ((zk_T7.drop 720).take 80) = true := by decide +kernel
theorem zk_ur_c10 : zk_all (zk_ur 7 zk_T7) ((zk_T7.drop 800).take 80) = true := by decide +kernel
theorem zk_ur_7 : ∀ x, x ∈ zk_T7 → (zk_ur 7 zk_T7) x = true := by
  refine zk_chunk (w := 80) (m := 11) (by have := Nat.eq_of_beq_eq_true zk_l7; omega) (fun i hi => ?_)
  have h : i = 0 ∨ i = 1 ∨ i = 2 ∨ i = 3 ∨ i = 4 ∨ i = 5 ∨ i = 6 ∨ i = 7 ∨ i = 8 ∨ i = 9 ∨ i = 10 := by omega
  rcases h with h | h | h | h | h | h | h | h | h | h | h
  · subst h; exact zk_ur_c0
  · subst h; exact zk_ur_c1
  · subst h; exact zk_ur_c2
  · subst h; exact zk_ur_c3
  · subst h; exact zk_ur_c4
  · subst h; exact zk_ur_c5
  · subst h; exact zk_ur_c6
  · subst h; exact zk_ur_c7
  · subst h; exact zk_ur_c8
  · subst h; exact zk_ur_c9
  · subst h; exact zk_ur_c10
theorem zt_unr {n e : Nat} (a : 1 ≤ n) (b : n ≤ 7) (h : e < zt_N n) (x : zt_x n e = 0) : zp_cn (fun r => Nat.beq (zt_x n r) 0 && zp_fn (zt_p n r) (zt_p n e)) (zt_N n) = zp_uu (zp_dg (zt_c n e)) n (zp_mx (zp_dg (zt_c n e)) n + 1) := by
  have h1 := zk_7 (P := fun n T => ∀ x, x ∈ T → zk_ur n T x = true) zk_ur_1 zk_ur_2 zk_ur_3 zk_ur_4 zk_ur_5 zk_ur_6 zk_ur_7 a b
  have h2 := h1 _ (zt_mem h)
  unfold zk_ur at h2
  have x0 : zk_x (zt_r n e) = 0 := x
  rw [x0] at h2
  have h3 : zk_cnt (fun k => Nat.beq (zk_x k) 0 && zp_fn (zk_p k) (zk_p (zt_r n e))) (zk_T n) = zp_uu (zp_dg (zt_c n e)) n (zt_n n e) := Nat.eq_of_beq_eq_true h2
  rw [← (zt_all a b h).2.1, ← h3, ← zp_cn_l]
  rfl
end
section
/-! interval, chains, signs: values packed, lists above one partition -/
def zk_pp (p q : Nat → Nat) : Nat → Nat
  | 0 => 0
  | i + 1 => cond (Nat.beq (p i) (zp_bl p i)) (zk_pp p q i + 8 ^ q i) (zk_pp p q i)
noncomputable def zk_frn (t : Nat) (k : Nat → Nat) : Nat := Nat.rec (motive := fun _ => Nat) (k 0) (fun m _ => k (Nat.succ m)) t
noncomputable def zk_frl (t : Nat) (k : Nat → List Nat) : List Nat := Nat.rec (motive := fun _ => List Nat) (k 0) (fun m _ => k (Nat.succ m)) t
theorem zk_frn_e (t : Nat) (k : Nat → Nat) : zk_frn t k = k t := by cases t <;> rfl
theorem zk_frl_e (t : Nat) (k : Nat → List Nat) : zk_frl t k = k t := by cases t <;> rfl
def zk_w (r g : Nat) : Nat := zk_p r + 2097152 * zk_n r + 16777216 * (zp_co (zp_dg g) 7).1 + 72057594037927936 * zp_sg (zp_dg g) 7 + 309485009821345068724781056 * zp_iv (zp_dg g) 7
noncomputable def zk_v (n p r : Nat) : Nat := zk_frn (zk_pp (zp_dg (zk_c p)) (zp_dg (zk_c r)) n) (zk_w r)
def zv_p (v : Nat) : Nat := v % 2097152
def zv_n (v : Nat) : Nat := v / 2097152 % 8
def zv_c (v : Nat) : Nat := v / 16777216 % 4294967296
def zv_s (v : Nat) : Nat := v / 72057594037927936 % 4294967296
def zv_i (v : Nat) : Nat := v / 309485009821345068724781056
noncomputable def zk_V (n p : Nat) (T : List Nat) : List Nat := List.rec (motive := fun _ => List Nat) [] (fun r _ ih => cond (zp_fn (zk_p p) (zk_p r)) (zk_frl (zk_v n p r) (fun v => v :: ih)) ih) T
noncomputable def zk_fil (c : Nat → Bool) (l : List Nat) : List Nat := List.rec (motive := fun _ => List Nat) [] (fun h _ ih => cond (c h) (h :: ih) ih) l
noncomputable def zk_sum (w : Nat → Nat) (l : List Nat) : Nat := List.rec (motive := fun _ => Nat) 0 (fun h _ ih => w h + ih) l
noncomputable def zk_rc (p r : Nat) (D : List Nat) : Bool :=
  cond (Nat.beq (zk_sum (fun _ => 1) D) (zv_i r)) (cond (Nat.beq (zv_c r) 0) false
    (cond (Nat.beq (zv_p r) (zk_p p)) (cond (Nat.beq (zv_c r) 1) (Nat.beq (zv_s r) 1) false)
      (cond (Nat.beq (zk_sum (fun s => cond (Nat.beq (zv_n s) (Nat.succ (zv_n r))) (zv_c s) 0) D) (zv_c r))
        (Nat.beq ((zk_sum (fun s => cond (Nat.ble (Nat.succ (zv_n r)) (zv_n s)) (zv_s s) 0) D + zv_s r) % 4294967296) 0) false))) false
noncomputable def zk_ic (n : Nat) (T : List Nat) (p : Nat) : Bool := zk_all (fun r => zk_frc (2097151 - zv_p r) (fun m => zk_rc p r (zk_fil (fun s => Nat.beq (Nat.land s m) 0) (zk_V n p T)))) (zk_V n p T)
end
section
theorem zk_rng {f : Nat → Bool} {T : List Nat} {a w : Nat} (h : zk_all f ((T.drop a).take w) = true) : ∀ k r, T[k]? = some r → a ≤ k → k < a + w → f r = true := by
  intro k r hk h1 h2
  refine zk_all_i h r (List.mem_iff_getElem?.mpr ⟨k - a, ?_⟩)
  rw [List.getElem?_take_of_lt (by omega), List.getElem?_drop, show a + (k - a) = k by omega]
  exact hk
theorem zk_V_len (n p : Nat) : ∀ T : List Nat, (zk_V n p T).length ≤ T.length := by
  intro T
  induction T with
  | nil => exact Nat.le_refl 0
  | cons r T ih =>
    show (cond (zp_fn (zk_p p) (zk_p r)) (zk_frl (zk_v n p r) (fun v => v :: zk_V n p T)) (zk_V n p T)).length ≤ T.length + 1
    rw [zk_frl_e]
    cases zp_fn (zk_p p) (zk_p r)
    · show (zk_V n p T).length ≤ T.length + 1; omega
    · show (zk_V n p T).length + 1 ≤ T.length + 1; omega
noncomputable def zk_i1 (n : Nat) (T : List Nat) (p r : Nat) : Bool := zk_frc (2097151 - zv_p r) (fun m => zk_rc p r (zk_fil (fun s => Nat.beq (Nat.land s m) 0) (zk_V n p T)))
theorem zk_ic_1 : zk_all (zk_ic 1 zk_T1) zk_T1 = true := by decide +kernel
theorem zk_ic_2 : zk_all (zk_ic 2 zk_T2) zk_T2 = true := by decide +kernel
theorem zk_ic_3 : zk_all (zk_ic 3 zk_T3) zk_T3 = true := by decide +kernel
theorem zk_ic_4 : zk_all (zk_ic 4 zk_T4) zk_T4 = true := by decide +kernel
theorem zk_ic_5 : zk_all (zk_ic 5 zk_T5) zk_T5 = true := by decide +kernel
theorem zk_ic_6 : zk_all (zk_ic 6 zk_T6) zk_T6 = true := by decide +kernel
theorem zk_ic_c0 : zk_all (zk_ic 7 zk_T7) ((zk_T7.drop 0).take 112) = true := by decide +kernel
theorem zk_ic_c1 : zk_all (zk_ic 7 zk_T7) ((zk_T7.drop 112).take 85) = true := by decide +kernel
theorem zk_ic_c2 : zk_all (zk_ic 7 zk_T7) ((zk_T7.drop 197).take 56) = true := by decide +kernel
theorem zk_ic_c3 : zk_all (zk_ic 7 zk_T7) ((zk_T7.drop 253).take 91) = true := by decide +kernel
theorem zk_ic_c4 : zk_all (zk_ic 7 zk_T7) ((zk_T7.drop 344).take 53) = true := by decide +kernel
theorem zk_ic_c5 : zk_all (zk_ic 7 zk_T7) ((zk_T7.drop 397).take 95) = true := by decide +kernel
theorem zk_ic_c6 : zk_all (zk_ic 7 zk_T7) ((zk_T7.drop 492).take 46) = true := by decide +kernel
theorem zk_ic_c7 : zk_all (zk_ic 7 zk_T7) ((zk_T7.drop 538).take 43) = true := by decide +kernel
theorem zk_ic_c8 : zk_all (zk_ic 7 zk_T7) ((zk_T7.drop 581).take 58) = true := by decide +kernel
theorem zk_ic_c9 : zk_all (zk_ic 7 zk_T7) ((zk_T7.drop 639).take 45) = true := by decide +kernel
theorem zk_ic_c10 : zk_all (zk_ic 7 zk_T7) ((zk_T7.drop 684).take 51) = true := by decide +kernel
theorem zk_ic_c11 : zk_all (zk_ic 7 zk_T7) ((zk_T7.drop 735).take 26) = true := by decide +kernel
theorem zk_ic_c12 : zk_all (zk_ic 7 zk_T7) ((zk_T7.drop 761).take 26) = true := by decide +kernel
theorem zk_ic_c13 : zk_all (zk_ic 7 zk_T7) ((zk_T7.drop 787).take 26) = true := by decide +kernel
theorem zk_ic_c14 : zk_all (zk_ic 7 zk_T7) ((zk_T7.drop 813).take 26) = true := by decide +kernel
theorem zk_ic_c15 : zk_all (zk_ic 7 zk_T7) ((zk_T7.drop 839).take 9) = true := by decide +kernel
theorem zk_ic_c16 : zk_all (zk_ic 7 zk_T7) ((zk_T7.drop 848).take 9) = true := by decide +kernel
theorem zk_ic_c17 : zk_all (zk_ic 7 zk_T7) ((zk_T7.drop 857).take 9) = true := by decide +kernel
theorem zk_ic_c18 : zk_all (zk_ic 7 zk_T7) ((zk_T7.drop 866).take 5) = true := by decide +kernel
theorem zk_ic_c19 : zk_all (zk_ic 7 zk_T7) ((zk_T7.drop 871).take 2) = true := by decide +kernel
theorem zk_ic_c20 : zk_all (zk_ic 7 zk_T7) ((zk_T7.drop 873).take 2) = true := by decide +kernel
theorem zk_ic_c21 : zk_all (zk_ic 7 zk_T7) ((zk_T7.drop 875).take 1) = true := by decide +kernel
theorem zk_ic_d0 : zk_all (zk_i1 7 zk_T7 30786327332488) (((zk_V 7 30786327332488 zk_T7).drop 0).take 90) = true := by decide +kernel
theorem zk_ic_d1 : zk_all (zk_i1 7 zk_T7 30786327332488) (((zk_V 7 30786327332488 zk_T7).drop 90).take 90) = true := by decide +kernel
theorem zk_ic_d2 : zk_all (zk_i1 7 zk_T7 30786327332488) (((zk_V 7 30786327332488 zk_T7).drop 180).take 90) = true := by decide +kernel
theorem zk_ic_d3 : zk_all (zk_i1 7 zk_T7 30786327332488) (((zk_V 7 30786327332488 zk_T7).drop 270).take 90) = true := by decide +kernel
theorem zk_ic_d4 : zk_all (zk_i1 7 zk_T7 30786327332488) (((zk_V 7 30786327332488 zk_T7).drop 360).take 90) = true := by decide +kernel
theorem zk_ic_d5 : zk_all (zk_i1 7 zk_T7 30786327332488) (((zk_V 7 30786327332488 zk_T7).drop 450).take 90) = true := by decide +kernel
theorem zk_ic_d6 : zk_all (zk_i1 7 zk_T7 30786327332488) (((zk_V 7 30786327332488 zk_T7).drop 540).take 90) = true := by decide +kernel
theorem zk_ic_d7 : zk_all (zk_i1 7 zk_T7 30786327332488) (((zk_V 7 30786327332488 zk_T7).drop 630).take 90) = true := by decide +kernel
theorem zk_ic_d8 : zk_all (zk_i1 7 zk_T7 30786327332488) (((zk_V 7 30786327332488 zk_T7).drop 720).take 90) = true := by decide +kernel
theorem zk_ic_d9 : zk_all (zk_i1 7 zk_T7 30786327332488) (((zk_V 7 30786327332488 zk_T7).drop 810).take 90) = true := by decide +kernel
end
section
theorem zk_ic_e : Nat.beq (zk_T7.getD 876 0) 30786327332488 = true := by decide +kernel
theorem zk_ic_l : zk_ic 7 zk_T7 30786327332488 = true := by
  have h : ∀ x, x ∈ zk_V 7 30786327332488 zk_T7 → zk_i1 7 zk_T7 30786327332488 x = true := by
    refine zk_chunk (w := 90) (m := 10) (by have := Nat.eq_of_beq_eq_true zk_l7; have := zk_V_len 7 30786327332488 zk_T7; omega) (fun i hi => ?_)
    have h : i = 0 ∨ i = 1 ∨ i = 2 ∨ i = 3 ∨ i = 4 ∨ i = 5 ∨ i = 6 ∨ i = 7 ∨ i = 8 ∨ i = 9 := by omega
    rcases h with h | h | h | h | h | h | h | h | h | h
    · subst h; exact zk_ic_d0
    · subst h; exact zk_ic_d1
    · subst h; exact zk_ic_d2
    · subst h; exact zk_ic_d3
    · subst h; exact zk_ic_d4
    · subst h; exact zk_ic_d5
    · subst h; exact zk_ic_d6
    · subst h; exact zk_ic_d7
    · subst h; exact zk_ic_d8
    · subst h; exact zk_ic_d9
  have al : ∀ {g : Nat → Bool} {l : List Nat}, (∀ x, x ∈ l → g x = true) → zk_all g l = true := by
    intro g l
    induction l with
    | nil => intro _; rfl
    | cons a l ih =>
      intro hh
      show cond (g a) (zk_all g l) false = true
      rw [hh a List.mem_cons_self, ih (fun x hx => hh x (List.mem_cons_of_mem a hx))]
      rfl
  exact al h
theorem zk_ic_7 : ∀ (k r : Nat), zk_T7[k]? = some r → zk_ic 7 zk_T7 r = true := by
  intro k r hk
  have h1 : k < zk_T7.length := (List.getElem?_eq_some_iff.mp hk).1
  have hl := Nat.eq_of_beq_eq_true zk_l7
  have h : (0 ≤ k ∧ k < 0 + 112) ∨ (112 ≤ k ∧ k < 112 + 85) ∨ (197 ≤ k ∧ k < 197 + 56) ∨ (253 ≤ k ∧ k < 253 + 91) ∨ (344 ≤ k ∧ k < 344 + 53) ∨ (397 ≤ k ∧ k < 397 + 95) ∨ (492 ≤ k ∧ k < 492 + 46) ∨ (538 ≤ k ∧ k < 538 + 43) ∨ (581 ≤ k ∧ k < 581 + 58) ∨ (639 ≤ k ∧ k < 639 + 45) ∨ (684 ≤ k ∧ k < 684 + 51) ∨ (735 ≤ k ∧ k < 735 + 26) ∨ (761 ≤ k ∧ k < 761 + 26) ∨ (787 ≤ k ∧ k < 787 + 26) ∨ (813 ≤ k ∧ k < 813 + 26) ∨ (839 ≤ k ∧ k < 839 + 9) ∨ (848 ≤ k ∧ k < 848 + 9) ∨ (857 ≤ k ∧ k < 857 + 9) ∨ (866 ≤ k ∧ k < 866 + 5) ∨ (871 ≤ k ∧ k < 871 + 2) ∨ (873 ≤ k ∧ k < 873 + 2) ∨ (875 ≤ k ∧ k < 875 + 1) ∨ k = 876 := by omega
  rcases h with h | h | h | h | h | h | h | h | h | h | h | h | h | h | h | h | h | h | h | h | h | h | h
  · exact zk_rng zk_ic_c0 k r hk h.1 h.2
  · exact zk_rng zk_ic_c1 k r hk h.1 h.2
  · exact zk_rng zk_ic_c2 k r hk h.1 h.2
  · exact zk_rng zk_ic_c3 k r hk h.1 h.2
  · exact zk_rng zk_ic_c4 k r hk h.1 h.2
  · exact zk_rng zk_ic_c5 k r hk h.1 h.2
  · exact zk_rng zk_ic_c6 k r hk h.1 h.2
  · exact zk_rng zk_ic_c7 k r hk h.1 h.2
  · exact zk_rng zk_ic_c8 k r hk h.1 h.2
  · exact zk_rng zk_ic_c9 k r hk h.1 h.2
  · exact zk_rng zk_ic_c10 k r hk h.1 h.2
  · exact zk_rng zk_ic_c11 k r hk h.1 h.2
  · exact zk_rng zk_ic_c12 k r hk h.1 h.2
  · exact zk_rng zk_ic_c13 k r hk h.1 h.2
  · exact zk_rng zk_ic_c14 k r hk h.1 h.2
  · exact zk_rng zk_ic_c15 k r hk h.1 h.2
  · exact zk_rng zk_ic_c16 k r hk h.1 h.2
  · exact zk_rng zk_ic_c17 k r hk h.1 h.2
  · exact zk_rng zk_ic_c18 k r hk h.1 h.2
  · exact zk_rng zk_ic_c19 k r hk h.1 h.2
  · exact zk_rng zk_ic_c20 k r hk h.1 h.2
  · exact zk_rng zk_ic_c21 k r hk h.1 h.2
  · subst h
    have e := Nat.eq_of_beq_eq_true zk_ic_e
    rw [List.getD_eq_getElem?_getD, hk] at e
    have e2 : r = 30786327332488 := e
    rw [e2]
    exact zk_ic_l
theorem zt_ic {n p : Nat} (a : 1 ≤ n) (b : n ≤ 7) (h : p < zt_N n) : zk_ic n (zk_T n) (zt_r n p) = true :=
  zk_7 (P := fun n T => ∀ (k r : Nat), T[k]? = some r → zk_ic n T r = true) (fun k r hk => zk_all_i zk_ic_1 r (List.mem_iff_getElem?.mpr ⟨k, hk⟩)) (fun k r hk => zk_all_i zk_ic_2 r (List.mem_iff_getElem?.mpr ⟨k, hk⟩)) (fun k r hk => zk_all_i zk_ic_3 r (List.mem_iff_getElem?.mpr ⟨k, hk⟩)) (fun k r hk => zk_all_i zk_ic_4 r (List.mem_iff_getElem?.mpr ⟨k, hk⟩)) (fun k r hk => zk_all_i zk_ic_5 r (List.mem_iff_getElem?.mpr ⟨k, hk⟩)) (fun k r hk => zk_all_i zk_ic_6 r (List.mem_iff_getElem?.mpr ⟨k, hk⟩)) zk_ic_7 a b p _ (zt_get h)
end
section
theorem zp_en_st {g : Nat → Nat} {b : Nat} : ∀ m, zp_en (zp_st g b (g b + 1)) m = zp_en g m + (if b < m then 8 ^ b else 0) := by
  intro m
  induction m with
  | zero => rfl
  | succ m ih =>
    show zp_en (zp_st g b (g b + 1)) m + zp_st g b (g b + 1) m * 8 ^ m = zp_en g m + g m * 8 ^ m + (if b < m + 1 then 8 ^ b else 0)
    rw [ih]
    by_cases q : m = b
    · subst q
      rw [zp_st_s, if_neg (by omega), if_pos (by omega), Nat.add_mul, Nat.one_mul]
      omega
    · rw [zp_st_n q]
      by_cases w : b < m
      · rw [if_pos w, if_pos (by omega)]; omega
      · rw [if_neg w, if_neg (by omega)]; omega
theorem zk_pp_e {n : Nat} {p q : Nat → Nat} (hq : ∀ i, i < n → q i < 7) : ∀ i, i ≤ n → zk_pp p q i = zp_en (zp_pf p q i) 7 := by
  intro i
  induction i with
  | zero =>
    intro _
    show 0 = zp_en (fun _ => 0) 7
    decide
  | succ i ih =>
    intro hi
    show cond (Nat.beq (p i) (zp_bl p i)) (zk_pp p q i + 8 ^ q i) (zk_pp p q i) = _
    rw [ih (by omega), zp_pf_s]
    by_cases w : p i = zp_bl p i
    · rw [if_pos w, w, Nat.beq_refl, zp_en_st, if_pos (hq i (by omega))]
      rfl
    · rw [if_neg w, zb_bq w]
      rfl
theorem zk_pp_d {n : Nat} {p q : Nat → Nat} (hn : n ≤ 7) (hq : ∀ i, i < n → q i < 7) : ∀ b, b < 7 → zp_dg (zk_pp p q n) b = zp_pf p q n b := by
  intro b hb
  rw [zk_pp_e hq n (Nat.le_refl n)]
  exact zp_dg_en 7 (fun i _ => by have := zp_pf_le p q n i; omega) b hb
theorem zp_iv_c {g h : Nat → Nat} : ∀ N, (∀ b, b < N → g b = h b) → zp_iv g N = zp_iv h N := by
  intro N
  induction N with
  | zero => intro _; rfl
  | succ N ih =>
    intro e
    show zp_iv g N * zp_wm (g N) 0 = zp_iv h N * zp_wm (h N) 0
    rw [ih (fun b hb => e b (by omega)), e N (by omega)]
theorem zp_co_c {g h : Nat → Nat} : ∀ N, (∀ b, b < N → g b = h b) → zp_co g N = zp_co h N := by
  intro N
  induction N with
  | zero => intro _; rfl
  | succ N ih =>
    intro e
    show zp_ci (g N - 1) 2 (zp_co g N).1 (zp_co g N).2 = zp_ci (h N - 1) 2 (zp_co h N).1 (zp_co h N).2
    rw [ih (fun b hb => e b (by omega)), e N (by omega)]
theorem zp_sg_c {g h : Nat → Nat} : ∀ N, (∀ b, b < N → g b = h b) → zp_sg g N = zp_sg h N := by
  intro N
  induction N with
  | zero => intro _; rfl
  | succ N ih =>
    intro e
    show zp_sq (g N) (zp_sg g N) = zp_sq (h N) (zp_sg h N)
    rw [ih (fun b hb => e b (by omega)), e N (by omega)]
theorem zp_cd_lt (k r s : Nat) : zp_cd k r s < 2147483648 := by
  unfold zp_cd
  cases q : Nat.ble 2147483648 (r * (k * (k - 1) / 2) * s)
  · have h : ¬ 2147483648 ≤ r * (k * (k - 1) / 2) * s := by
      intro z
      rw [Nat.ble_eq_true_of_le z] at q
      exact absurd q (by decide)
    have h2 := Nat.div_le_self (r * (k * (k - 1) / 2) * s) (k - 1)
    show r * (k * (k - 1) / 2) * s / (k - 1) < 2147483648
    omega
  · show 0 < 2147483648; omega
theorem zp_ci_lt : ∀ d k r s, r < 2147483648 → (zp_ci d k r s).1 < 2147483648 := by
  intro d
  induction d with
  | zero => intro k r s h; exact h
  | succ d ih => intro k r s _; exact ih _ _ _ (zp_cd_lt _ _ _)
theorem zp_co_lt (g : Nat → Nat) : ∀ b, (zp_co g b).1 < 2147483648 := by
  intro b
  induction b with
  | zero => show 1 < 2147483648; omega
  | succ b ih => exact zp_ci_lt _ _ _ _ ih
theorem zp_sg_lt (g : Nat → Nat) : ∀ b, zp_sg g b < 4294967296 := by
  intro b
  induction b with
  | zero => show 1 < 4294967296; omega
  | succ b ih =>
    show zp_sq (g b) (zp_sg g b) < 4294967296
    unfold zp_sq
    cases Nat.beq (g b) 0
    · cases Nat.beq (g b % 2) 1
      · exact Nat.mod_lt _ (by decide)
      · exact Nat.mod_lt _ (by decide)
    · exact ih
theorem zk_v_d (n p r : Nat) : zv_p (zk_v n p r) = zk_p r ∧ zv_n (zk_v n p r) = zk_n r ∧ zv_c (zk_v n p r) = (zp_co (zp_dg (zk_pp (zp_dg (zk_c p)) (zp_dg (zk_c r)) n)) 7).1 ∧ zv_s (zk_v n p r) = zp_sg (zp_dg (zk_pp (zp_dg (zk_c p)) (zp_dg (zk_c r)) n)) 7 ∧ zv_i (zk_v n p r) = zp_iv (zp_dg (zk_pp (zp_dg (zk_c p)) (zp_dg (zk_c r)) n)) 7 := by
  unfold zk_v
  rw [zk_frn_e]
  generalize zk_pp (zp_dg (zk_c p)) (zp_dg (zk_c r)) n = g
  unfold zk_w
  have h1 : zk_p r < 2097152 := Nat.mod_lt _ (by decide)
  have h2 : zk_n r < 8 := Nat.mod_lt _ (by decide)
  have h3 := zp_co_lt (zp_dg g) 7
  have h4 := zp_sg_lt (zp_dg g) 7
  generalize zk_p r = A at *
  generalize zk_n r = B at *
  generalize (zp_co (zp_dg g) 7).1 = C at *
  generalize zp_sg (zp_dg g) 7 = D at *
  generalize zp_iv (zp_dg g) 7 = E at *
  unfold zv_p zv_n zv_c zv_s zv_i
  refine ⟨by omega, by omega, by omega, by omega, by omega⟩
/-! sums -/
theorem zk_sum_c {w w' : Nat → Nat} : ∀ {l : List Nat}, (∀ x, x ∈ l → w x = w' x) → zk_sum w l = zk_sum w' l := by
  intro l
  induction l with
  | nil => intro _; rfl
  | cons a l ih =>
    intro h
    show w a + zk_sum w l = w' a + zk_sum w' l
    rw [h a List.mem_cons_self, ih (fun x hx => h x (List.mem_cons_of_mem a hx))]
theorem zk_sum_f {w : Nat → Nat} {c : Nat → Bool} : ∀ l : List Nat, zk_sum w (zk_fil c l) = zk_sum (fun x => cond (c x) (w x) 0) l := by
  intro l
  induction l with
  | nil => rfl
  | cons a l ih =>
    show zk_sum w (cond (c a) (a :: zk_fil c l) (zk_fil c l)) = cond (c a) (w a) 0 + zk_sum (fun x => cond (c x) (w x) 0) l
    cases c a
    · show zk_sum w (zk_fil c l) = 0 + _
      rw [ih, Nat.zero_add]
    · show w a + zk_sum w (zk_fil c l) = w a + _
      rw [ih]
theorem zk_sum_V {w : Nat → Nat} {n p : Nat} : ∀ T : List Nat, zk_sum w (zk_V n p T) = zk_sum (fun r => cond (zp_fn (zk_p p) (zk_p r)) (w (zk_v n p r)) 0) T := by
  intro T
  induction T with
  | nil => rfl
  | cons r T ih =>
    show zk_sum w (cond (zp_fn (zk_p p) (zk_p r)) (zk_frl (zk_v n p r) (fun v => v :: zk_V n p T)) (zk_V n p T)) = cond (zp_fn (zk_p p) (zk_p r)) (w (zk_v n p r)) 0 + zk_sum (fun r => cond (zp_fn (zk_p p) (zk_p r)) (w (zk_v n p r)) 0) T
    rw [zk_frl_e]
    cases zp_fn (zk_p p) (zk_p r)
    · show zk_sum w (zk_V n p T) = 0 + _
      rw [ih, Nat.zero_add]
    · show w (zk_v n p r) + zk_sum w (zk_V n p T) = w (zk_v n p r) + _
      rw [ih]
theorem zk_V_mem {n p r : Nat} : ∀ {T : List Nat}, r ∈ T → zp_fn (zk_p p) (zk_p r) = true → zk_v n p r ∈ zk_V n p T := by
  intro T
  induction T with
  | nil => intro h; exact absurd h (List.not_mem_nil)
  | cons a T ih =>
    intro h f
    show zk_v n p r ∈ cond (zp_fn (zk_p p) (zk_p a)) (zk_frl (zk_v n p a) (fun v => v :: zk_V n p T)) (zk_V n p T)
    rw [zk_frl_e]
    rcases List.mem_cons.mp h with z | z
    · subst z
      rw [f]
      exact List.mem_cons_self
    · have := ih z f
      cases zp_fn (zk_p p) (zk_p a)
      · exact this
      · exact List.mem_cons_of_mem _ this
theorem zp_sm_s (c : Nat → Bool) (w : Nat → Nat) : ∀ N, zp_sm c w (N + 1) = cond (c 0) (w 0) 0 + zp_sm (fun k => c (k + 1)) (fun k => w (k + 1)) N := by
  intro N
  induction N with
  | zero =>
    show cond (c 0) (0 + w 0) 0 = cond (c 0) (w 0) 0 + 0
    cases c 0
    · rfl
    · show 0 + w 0 = w 0 + 0; omega
  | succ N ih =>
    show cond (c (N + 1)) (zp_sm c w (N + 1) + w (N + 1)) (zp_sm c w (N + 1)) = cond (c 0) (w 0) 0 + cond (c (N + 1)) (zp_sm (fun k => c (k + 1)) (fun k => w (k + 1)) N + w (N + 1)) (zp_sm (fun k => c (k + 1)) (fun k => w (k + 1)) N)
    rw [ih]
    cases c (N + 1)
    · rfl
    · show cond (c 0) (w 0) 0 + zp_sm (fun k => c (k + 1)) (fun k => w (k + 1)) N + w (N + 1) = cond (c 0) (w 0) 0 + (zp_sm (fun k => c (k + 1)) (fun k => w (k + 1)) N + w (N + 1))
      omega
theorem zp_sm_l (c : Nat → Bool) (w : Nat → Nat) : ∀ l : List Nat, zp_sm (fun k => c (l.getD k 0)) (fun k => w (l.getD k 0)) l.length = zk_sum (fun x => cond (c x) (w x) 0) l := by
  intro l
  induction l with
  | nil => rfl
  | cons a l ih =>
    rw [List.length_cons, zp_sm_s]
    show cond (c a) (w a) 0 + zp_sm (fun k => c (l.getD k 0)) (fun k => w (l.getD k 0)) l.length = cond (c a) (w a) 0 + zk_sum (fun x => cond (c x) (w x) 0) l
    rw [ih]
theorem zp_cn_sm (c : Nat → Bool) : ∀ N, zp_cn c N = zp_sm c (fun _ => 1) N := by
  intro N
  induction N with
  | zero => rfl
  | succ N ih =>
    show cond (c N) (zp_cn c N + 1) (zp_cn c N) = cond (c N) (zp_sm c (fun _ => 1) N + 1) (zp_sm c (fun _ => 1) N)
    rw [ih]
theorem zp_land {v b : Nat} (hb : b < 2097152) : Nat.beq (Nat.land v (2097151 - b)) 0 = zp_fn (v % 2097152) b := by
  have tb : ∀ i, (2097151 - b).testBit i = (decide (i < 21) && !b.testBit i) := by
    intro i
    have := Nat.testBit_two_pow_sub_succ (x := b) (n := 21) hb i
    rw [show 2 ^ 21 - (b + 1) = 2097151 - b by omega] at this
    exact this
  have tm : ∀ i, (v % 2097152).testBit i = (decide (i < 21) && v.testBit i) := by
    intro i
    exact Nat.testBit_mod_two_pow v 21 i
  apply Bool.eq_iff_iff.mpr
  rw [Nat.beq_eq, zp_fn_tb]
  show v &&& (2097151 - b) = 0 ↔ _
  constructor
  · intro h i hi
    rw [tm] at hi
    rw [Bool.and_eq_true] at hi
    have h1 := Nat.testBit_and v (2097151 - b) i
    rw [h, Nat.zero_testBit, tb, hi.1, hi.2] at h1
    cases q : b.testBit i
    · rw [q] at h1; exact absurd h1 (by decide)
    · rfl
  · intro h
    apply Nat.eq_of_testBit_eq
    intro i
    rw [Nat.testBit_and, Nat.zero_testBit, tb]
    cases q1 : v.testBit i
    · rfl
    · cases q2 : decide (i < 21)
      · rfl
      · rw [h i (by rw [tm, q1, q2]; rfl)]; rfl
/-- the three values of an interval -/
noncomputable def zt_g (n p r : Nat) : Nat → Nat := zp_pf (zp_dg (zt_c n p)) (zp_dg (zt_c n r)) n
theorem zt_gv {n p r : Nat} (a : 1 ≤ n) (b : n ≤ 7) (hr : r < zt_N n) : zv_p (zk_v n (zt_r n p) (zt_r n r)) = zt_p n r ∧ zv_n (zk_v n (zt_r n p) (zt_r n r)) = zt_n n r ∧ zv_c (zk_v n (zt_r n p) (zt_r n r)) = (zp_co (zt_g n p r) 7).1 ∧ zv_s (zk_v n (zt_r n p) (zt_r n r)) = zp_sg (zt_g n p r) 7 ∧ zv_i (zk_v n (zt_r n p) (zt_r n r)) = zp_iv (zt_g n p r) 7 := by
  obtain ⟨h1, h2, h3, h4, h5⟩ := zk_v_d n (zt_r n p) (zt_r n r)
  have hd : ∀ x, x < 7 → zp_dg (zk_pp (zp_dg (zk_c (zt_r n p))) (zp_dg (zk_c (zt_r n r))) n) x = zt_g n p r x := zk_pp_d b (zt_rg a b hr)
  rw [zp_co_c 7 hd] at h3
  rw [zp_sg_c 7 hd] at h4
  rw [zp_iv_c 7 hd] at h5
  exact ⟨h1, h2, h3, h4, h5⟩
/-- a sum over what lies between p and r in the list is one over the places -/
theorem zt_sum {n p r : Nat} (a : 1 ≤ n) (b : n ≤ 7) (hr : r < zt_N n) {c : Nat → Bool} {w : Nat → Nat} {c' : Nat → Bool} {w' : Nat → Nat} (hc : ∀ s, s < zt_N n → c (zk_v n (zt_r n p) (zt_r n s)) = c' s) (hw : ∀ s, s < zt_N n → w (zk_v n (zt_r n p) (zt_r n s)) = w' s) :
    zk_sum (fun s => cond (c s) (w s) 0) (zk_fil (fun s => Nat.beq (Nat.land s (2097151 - zt_p n r)) 0) (zk_V n (zt_r n p) (zk_T n))) = zp_sm (fun s => c' s && (zp_fn (zt_p n p) (zt_p n s) && zp_fn (zt_p n s) (zt_p n r))) w' (zt_N n) := by
  rw [zk_sum_f, zk_sum_V]
  have e1 : zp_sm (fun s => c' s && (zp_fn (zt_p n p) (zt_p n s) && zp_fn (zt_p n s) (zt_p n r))) w' (zt_N n) = zp_sm (fun k => c (zk_v n (zt_r n p) ((zk_T n).getD k 0)) && (zp_fn (zk_p (zt_r n p)) (zk_p ((zk_T n).getD k 0)) && zp_fn (zk_p ((zk_T n).getD k 0)) (zt_p n r))) (fun k => w (zk_v n (zt_r n p) ((zk_T n).getD k 0))) (zk_T n).length := by
    have gen : ∀ N, N ≤ zt_N n → zp_sm (fun s => c' s && (zp_fn (zt_p n p) (zt_p n s) && zp_fn (zt_p n s) (zt_p n r))) w' N = zp_sm (fun k => c (zk_v n (zt_r n p) ((zk_T n).getD k 0)) && (zp_fn (zk_p (zt_r n p)) (zk_p ((zk_T n).getD k 0)) && zp_fn (zk_p ((zk_T n).getD k 0)) (zt_p n r))) (fun k => w (zk_v n (zt_r n p) ((zk_T n).getD k 0))) N := by
      intro N
      induction N with
      | zero => intro _; rfl
      | succ N ih =>
        intro hN
        have i1 := ih (by omega)
        have i2 := hc N (by omega)
        have i3 := hw N (by omega)
        show cond (c' N && (zp_fn (zt_p n p) (zt_p n N) && zp_fn (zt_p n N) (zt_p n r))) (zp_sm (fun s => c' s && (zp_fn (zt_p n p) (zt_p n s) && zp_fn (zt_p n s) (zt_p n r))) w' N + w' N) (zp_sm (fun s => c' s && (zp_fn (zt_p n p) (zt_p n s) && zp_fn (zt_p n s) (zt_p n r))) w' N) = _
        rw [i1, ← i2, ← i3]
        rfl
    exact gen _ (Nat.le_refl _)
  rw [e1, zp_sm_l (fun x => c (zk_v n (zt_r n p) x) && (zp_fn (zk_p (zt_r n p)) (zk_p x) && zp_fn (zk_p x) (zt_p n r))) (fun x => w (zk_v n (zt_r n p) x))]
  apply zk_sum_c
  intro x hx
  obtain ⟨s, hs, es⟩ := zt_ix hx
  subst es
  have hv := (zk_v_d n (zt_r n p) (zt_r n s)).1
  unfold zv_p at hv
  rw [zp_land (zt_pb n r), hv]
  cases zp_fn (zk_p (zt_r n p)) (zk_p (zt_r n s)) <;> cases zp_fn (zk_p (zt_r n s)) (zt_p n r) <;> cases c (zk_v n (zt_r n p) (zt_r n s)) <;> rfl
theorem zk_cd1 {a b : Bool} (h : cond a false b = true) : a = false ∧ b = true := by
  cases a
  · exact ⟨rfl, h⟩
  · exact absurd h Bool.false_ne_true
theorem zt_int {n p r : Nat} (a : 1 ≤ n) (b : n ≤ 7) (hp : p < zt_N n) (hr : r < zt_N n) (h : zp_fn (zt_p n p) (zt_p n r) = true) :
    (zp_co (zt_g n p r) 7).1 ≠ 0 ∧ zp_cn (fun s => zp_fn (zt_p n p) (zt_p n s) && zp_fn (zt_p n s) (zt_p n r)) (zt_N n) = zp_iv (zt_g n p r) 7 ∧ (r = p → (zp_co (zt_g n p r) 7).1 = 1 ∧ zp_sg (zt_g n p r) 7 = 1) ∧ (r ≠ p → (zp_co (zt_g n p r) 7).1 = zp_sm (zp_wc n true p r) (fun s => (zp_co (zt_g n p s) 7).1) (zt_N n) ∧ (zp_sm (zp_wc n false p r) (fun s => zp_sg (zt_g n p s) 7) (zt_N n) + zp_sg (zt_g n p r) 7) % 4294967296 = 0) := by
  have h1 := zt_ic a b hp
  have h2 := zk_all_i h1 _ (zk_V_mem (zt_mem hr) h)
  obtain ⟨v1, v2, v3, v4, v5⟩ := zt_gv (p := p) a b hr
  rw [zk_frc_e, v1] at h2
  unfold zk_rc at h2
  obtain ⟨q1, h2⟩ := zk_cd2 h2
  obtain ⟨q2, h2⟩ := zk_cd1 h2
  rw [v5] at q1
  rw [v3] at q2
  rw [v1, v2, v3, v4] at h2
  have s1 := zt_sum (p := p) a b hr (c := fun _ => true) (w := fun _ => 1) (c' := fun _ => true) (w' := fun _ => 1) (fun _ _ => rfl) (fun _ _ => rfl)
  have s2 := zt_sum (p := p) a b hr (c := fun s => Nat.beq (zv_n s) (Nat.succ (zt_n n r))) (w := zv_c) (c' := zp_bf n true r) (w' := fun s => (zp_co (zt_g n p s) 7).1) (fun s hs => by
    show Nat.beq (zv_n (zk_v n (zt_r n p) (zt_r n s))) (Nat.succ (zt_n n r)) = Nat.beq (zt_n n s) (zt_n n r + 1)
    rw [(zt_gv (p := p) a b hs).2.1]) (fun s hs => (zt_gv (p := p) a b hs).2.2.1)
  have s3 := zt_sum (p := p) a b hr (c := fun s => Nat.ble (Nat.succ (zt_n n r)) (zv_n s)) (w := zv_s) (c' := zp_bf n false r) (w' := fun s => zp_sg (zt_g n p s) 7) (fun s hs => by
    show Nat.ble (Nat.succ (zt_n n r)) (zv_n (zk_v n (zt_r n p) (zt_r n s))) = Nat.ble (zt_n n r + 1) (zt_n n s)
    rw [(zt_gv (p := p) a b hs).2.1]) (fun s hs => (zt_gv (p := p) a b hs).2.2.2.1)
  refine ⟨fun z => ?_, ?_, fun e => ?_, fun e => ?_⟩
  · rw [z] at q2; exact absurd q2 (by decide)
  · rw [zp_cn_sm, ← Nat.eq_of_beq_eq_true q1]
    exact s1.symm
  · have ep : Nat.beq (zt_p n r) (zk_p (zt_r n p)) = true := by
      rw [e]
      exact Nat.beq_refl _
    rw [ep] at h2
    obtain ⟨q3, q4⟩ := zk_cd2 h2
    exact ⟨Nat.eq_of_beq_eq_true q3, Nat.eq_of_beq_eq_true q4⟩
  · have ep : Nat.beq (zt_p n r) (zk_p (zt_r n p)) = false := zb_bq (fun z => e (zt_pinj a b hr hp z))
    rw [ep] at h2
    obtain ⟨q3, q4⟩ := zk_cd2 h2
    rw [s2] at q3
    rw [s3] at q4
    exact ⟨(Nat.eq_of_beq_eq_true q3).symm, Nat.eq_of_beq_eq_true q4⟩
end
section
/-! the relation: the same number of points, the same two places in the list of all partitions -/
def zr_X (n : Nat) (ks : Nat → Nat) (bk wa pd ba : Nat → Int32) : Prop := (∀ e, e < 2 → zx_R bk (7 * e) n (zp_dg (zt_c n (ks e)))) ∧ zx_W wa ∧ zx_P pd ∧ zx_B ba
def zr_Y (n : Nat) (ks : Nat → Nat) (co pr ct cx el : Nat → Int32) : Prop := zy_T n (zt_N n) co pr ct cx ∧ ∀ e, e < 2 → ks e < zt_N n ∧ el e = nI (ks e)
def i_Rel (k : Nat) (u : SX) (v : SY) : Prop := ∃ (n : Nat) (ks : Nat → Nat) (bk re pa wa pd ba co pr ct cx fo el ro ot nu tw : Nat → Int32), 1 ≤ n ∧ n ≤ 7 ∧ zr_X n ks bk wa pd ba ∧ zr_Y n ks co pr ct cx el ∧ u = (nI n, bk, re, pa, wa, pd, ba) ∧ v = (nI n, nI (zt_N n), co, pr, ct, cx, fo, el, ro, ot, nu, tw)
theorem zr_in {k n : Nat} {ks : Nat → Nat} {bk re pa wa pd ba co pr ct cx fo el ro ot nu tw : Nat → Int32} (h1 : 1 ≤ n) (hn : n ≤ 7) (hX : zr_X n ks bk wa pd ba) (hY : zr_Y n ks co pr ct cx el) : i_Rel k (nI n, bk, re, pa, wa, pd, ba) (nI n, nI (zt_N n), co, pr, ct, cx, fo, el, ro, ot, nu, tw) :=
  ⟨n, ks, bk, re, pa, wa, pd, ba, co, pr, ct, cx, fo, el, ro, ot, nu, tw, h1, hn, hX, hY, rfl, rfl⟩
theorem zr_el {k : Nat} {u : SX} {v : SY} {P : SX → SY → Prop} (h : ∀ (n : Nat) (ks : Nat → Nat) (bk re pa wa pd ba co pr ct cx fo el ro ot nu tw : Nat → Int32), 1 ≤ n → n ≤ 7 → zr_X n ks bk wa pd ba → zr_Y n ks co pr ct cx el → P (nI n, bk, re, pa, wa, pd, ba) (nI n, nI (zt_N n), co, pr, ct, cx, fo, el, ro, ot, nu, tw)) (I : i_Rel k u v) : P u v := by
  obtain ⟨n, ks, bk, re, pa, wa, pd, ba, co, pr, ct, cx, fo, el, ro, ot, nu, tw, h1, hn, hX, hY, e1, e2⟩ := I
  rw [e1, e2]
  exact h n ks bk re pa wa pd ba co pr ct cx fo el ro ot nu tw h1 hn hX hY
theorem zr_up {k n e m : Nat} {ks : Nat → Nat} {bk bk' re pa wa pd ba co pr ct cx fo el ro ot nu tw : Nat → Int32} (h1 : 1 ≤ n) (hn : n ≤ 7) (he : e < 2) (hm : m < zt_N n) (hX : zr_X n ks bk wa pd ba) (hY : zr_Y n ks co pr ct cx el) (R : zx_R bk' (7 * e) n (zp_dg (zt_c n m))) (T : ∀ j, j < 14 → (j < 7 * e ∨ 7 * e + n ≤ j) → bk' j = bk j) : i_Rel k (nI n, bk', re, pa, wa, pd, ba) (nI n, nI (zt_N n), co, pr, ct, cx, fo, upd el e (nI m), ro, ot, nu, tw) := by
  refine zr_in (ks := zp_st ks e m) h1 hn ⟨fun e' he' => ?_, hX.2⟩ ⟨hY.1, fun e' he' => ?_⟩
  · by_cases q : e' = e
    · rw [q, zp_st_s]; exact R
    · rw [zp_st_n q]
      exact zx_R_a (fun j hj => T _ (by omega) (by omega)) (hX.1 e' he')
  · by_cases q : e' = e
    · rw [q, zp_st_s, pk_us]; exact ⟨hm, rfl⟩
    · rw [zp_st_n q, pk_un q]; exact hY.2 e' he'
/-- as meet and join end -/
theorem zr_up0 {k n m : Nat} {ks : Nat → Nat} {bk bk' re pa wa pd ba co pr ct cx fo el ro ot nu tw : Nat → Int32} (h1 : 1 ≤ n) (hn : n ≤ 7) (hm : m < zt_N n) (hX : zr_X n ks bk wa pd ba) (hY : zr_Y n ks co pr ct cx el) (R : zx_R bk' (7 * 0) n (zp_dg (zt_c n m))) (S : zx_R bk' (7 * 1) n (zp_dg (zt_c n (ks 1)))) : i_Rel k (nI n, bk', re, pa, wa, pd, ba) (nI n, nI (zt_N n), co, pr, ct, cx, fo, upd el 0 (nI m), ro, ot, nu, tw) := by
  refine zr_in (ks := zp_st ks 0 m) h1 hn ⟨fun e' he' => ?_, hX.2⟩ ⟨hY.1, fun e' he' => ?_⟩
  · by_cases q : e' = 0
    · rw [q, zp_st_s]; exact R
    · have e1 : e' = 1 := by omega
      rw [e1, zp_st_n (by omega)]
      exact S
  · by_cases q : e' = 0
    · rw [q, zp_st_s, pk_us]; exact ⟨hm, rfl⟩
    · rw [zp_st_n q, pk_un q]; exact hY.2 e' he'
/-! bad words -/
def zb_E (x : Int32) : Prop := x < 0 ∨ (¬ x < 0 ∧ ¬ x ≤ 1)
def zb_P (x : Int32) (n : Nat) : Prop := x < 0 ∨ (¬ x < 0 ∧ ¬ x < nI n)
theorem zb_el2 (x : Int32) : zb_E x ∨ ∃ e, e < 2 ∧ x = nI e := by
  rcases zb_el x with h | h | h
  · exact Or.inl (Or.inl h)
  · exact Or.inl (Or.inr h)
  · exact Or.inr h
theorem zb_pt2 (x : Int32) {n : Nat} (hn : n ≤ 7) : zb_P x n ∨ ∃ i, i < n ∧ x = nI i := by
  rcases zb_pt x hn with h | h | h
  · exact Or.inl (Or.inl h)
  · exact Or.inl (Or.inr h)
  · exact Or.inr h
theorem zx_bE1 {post : Int32 → Prop} {u : SX} {x : Int32} (hx : zb_E x) (h : post 1) : wpX_badElement post u x := by
  rcases hx with a | ⟨a, b⟩
  · exact br_t a h
  · exact br_f a (br_f b h)
theorem zx_bP1 {post : Int32 → Prop} {n : Nat} {x : Int32} {bk re pa wa pd ba : Nat → Int32} (hx : zb_P x n) (h : post 1) : wpX_badPoint post (nI n, bk, re, pa, wa, pd, ba) x := by
  rcases hx with a | ⟨a, b⟩
  · exact br_t a h
  · exact br_f a (br_f b h)
theorem zp_cn_0 {c : Nat → Bool} : ∀ N, (∀ k, k < N → c k = false) → zp_cn c N = 0 := by
  intro N
  induction N with
  | zero => intro _; rfl
  | succ N ih =>
    intro h
    show cond (c N) (zp_cn c N + 1) (zp_cn c N) = 0
    rw [h N (by omega)]
    exact ih (fun k hk => h k (by omega))
end
section
theorem i_up {k : Nat} {u : SX} {v : SY} (h : i_Rel k u v) : i_Rel (k + 4) u v := by
  exact zr_el (P := fun u v => i_Rel (k + 4) u v) (fun n ks bk re pa wa pd ba co pr ct cx fo el ro ot nu tw h1 hn hX hY => zr_in h1 hn hX hY) h
theorem i_vc0 (k0 : Int32) : wpX_init (fun u => wpY_init (fun v => i_Rel 1 u v) k0) k0 := by
  obtain ⟨n, h1, hn, hx⟩ := zb_cl_ex k0
  have hN7 := zt_N_le h1 hn
  have hl := (zt_chain h1 hn).2.1
  have hd : ∀ i, i < n → i = zp_dg (zt_c n (zt_N n - 1)) i := fun i hi => by
    rw [hl]
    exact (zp_dg_en (f := fun j => j) n (fun j hj => by show j < 8; omega) i hi).symm
  refine zx_init hx hn (fun bk wa pd ba R S W P B => ?_)
  refine zy_init hx h1 hn (fun co pr ct cx fo el ro ot nu tw T e0 e1 => ?_)
  refine zr_in (ks := fun _ => zt_N n - 1) h1 hn ⟨fun e he => ?_, W, P, B⟩ ⟨T, fun e he => ⟨by show zt_N n - 1 < zt_N n; omega, ?_⟩⟩
  · have h : e = 0 ∨ e = 1 := by omega
    rcases h with h | h
    · subst h; exact zx_R_c hd R
    · subst h; exact zx_R_c hd S
  · have h : e = 0 ∨ e = 1 := by omega
    rcases h with h | h
    · subst h; exact e0
    · subst h; exact e1
theorem i_vc_put {k : Nat} {u : SX} {v : SY} (I : i_Rel k u v) (hk : k + 4 ≤ 2049) (v1 : Int32) (v2 : Int32) : wpX_put (fun r u' => wpY_put (fun r' v' => r' = r ∧ i_Rel (k + 4) u' v') v v1 v2) u v1 v2 := by
  refine zr_el (P := fun u v => wpX_put (fun r u' => wpY_put (fun r' v' => r' = r ∧ i_Rel (k + 4) u' v') v v1 v2) u v1 v2) ?_ I
  intro n ks bk re pa wa pd ba co pr ct cx fo el ro ot nu tw h1 hn hX hY
  have hN7 := zt_N_le h1 hn
  have same : i_Rel (k + 4) (nI n, bk, re, pa, wa, pd, ba) (nI n, nI (zt_N n), co, pr, ct, cx, fo, el, ro, ot, nu, tw) := zr_in h1 hn hX hY
  have d7 : ∀ e, e < 2 → ∀ i, i < n → zp_dg (zt_c n (ks e)) i < 7 := fun e he => zt_rg h1 hn (hY.2 e he).1
  have d8 : ∀ e, e < 2 → ∀ i, i < n → zp_dg (zt_c n (ks e)) i < 8 := fun e _ i _ => zp_dg_lt _ i
  have d16 : ∀ e, e < 2 → ∀ i, i < n → zp_dg (zt_c n (ks e)) i < 16 := fun e _ i _ => by have := zp_dg_lt (zt_c n (ks e)) i; omega
  have tp : ∀ e, e < 2 → zt_p n (ks e) = zp_tg n (zp_dg (zt_c n (ks e))) := fun e he => (zt_all h1 hn (hY.2 e he).1).1
  refine zx_put h1 hn (fun e m bk' he ex hm ey R T => ?_) (fun N => ?_)
  · subst ex
    refine zy_put h1 hn he hY.1 (fun m' hm' ey' => ?_) (fun N => absurd ey (N m hm))
    have e1 : m = m' := by
      have a1 := zt_c21 n m
      have a2 := zt_c21 n m'
      exact zt_inj h1 hn hm hm' ((nI_eq (by omega) (by omega)).mp (ey.symm.trans ey'))
    subst e1
    exact ⟨rfl, zr_up h1 hn he hm hX hY R (fun j _ hj => T j hj)⟩
  · rcases zb_el2 v1 with b1 | ⟨e, he, rfl⟩
    · unfold wpY_put
      try dsimp only
      exact zy_bE1 b1 (br_f zb_10 ⟨rfl, same⟩)
    · exact zy_put h1 hn he hY.1 (fun m hm ey => absurd ey (N e he rfl m hm)) (fun _ => ⟨rfl, same⟩)
theorem i_vc_merge {k : Nat} {u : SX} {v : SY} (I : i_Rel k u v) (hk : k + 4 ≤ 2049) (v1 : Int32) (v2 : Int32) (v3 : Int32) : wpX_merge (fun r u' => wpY_merge (fun r' v' => r' = r ∧ i_Rel (k + 4) u' v') v v1 v2 v3) u v1 v2 v3 := by
  refine zr_el (P := fun u v => wpX_merge (fun r u' => wpY_merge (fun r' v' => r' = r ∧ i_Rel (k + 4) u' v') v v1 v2 v3) u v1 v2 v3) ?_ I
  intro n ks bk re pa wa pd ba co pr ct cx fo el ro ot nu tw h1 hn hX hY
  have hN7 := zt_N_le h1 hn
  have same : i_Rel (k + 4) (nI n, bk, re, pa, wa, pd, ba) (nI n, nI (zt_N n), co, pr, ct, cx, fo, el, ro, ot, nu, tw) := zr_in h1 hn hX hY
  have d7 : ∀ e, e < 2 → ∀ i, i < n → zp_dg (zt_c n (ks e)) i < 7 := fun e he => zt_rg h1 hn (hY.2 e he).1
  have d8 : ∀ e, e < 2 → ∀ i, i < n → zp_dg (zt_c n (ks e)) i < 8 := fun e _ i _ => zp_dg_lt _ i
  have d16 : ∀ e, e < 2 → ∀ i, i < n → zp_dg (zt_c n (ks e)) i < 16 := fun e _ i _ => by have := zp_dg_lt (zt_c n (ks e)) i; omega
  have tp : ∀ e, e < 2 → zt_p n (ks e) = zp_tg n (zp_dg (zt_c n (ks e))) := fun e he => (zt_all h1 hn (hY.2 e he).1).1
  rcases zb_el2 v1 with b1 | ⟨e, he, rfl⟩
  · unfold wpX_merge
    try dsimp only
    refine zx_bE1 b1 (br_f zb_10 ?_)
    unfold wpY_merge
    try dsimp only
    exact zy_bE1 b1 (br_f zb_10 ⟨rfl, same⟩)
  · rcases zb_pt2 v2 hn with b2 | ⟨i, hi, rfl⟩
    · unfold wpX_merge
      try dsimp only
      refine zx_bE0 he (br_t rfl (zx_bP1 b2 (br_f zb_10 ?_)))
      unfold wpY_merge
      try dsimp only
      exact zy_bE0 he (br_t rfl (zy_bP1 b2 (br_f zb_10 ⟨rfl, same⟩)))
    · rcases zb_pt2 v3 hn with b2 | ⟨j, hj, rfl⟩
      · unfold wpX_merge
        try dsimp only
        refine zx_bE0 he (br_t rfl (zx_bP0 hn hi (br_t rfl (zx_bP1 b2 (br_f zb_10 ?_)))))
        unfold wpY_merge
        try dsimp only
        exact zy_bE0 he (br_t rfl (zy_bP0 hn hi (br_t rfl (zy_bP1 b2 (br_f zb_10 ⟨rfl, same⟩)))))
      · refine zx_merge h1 hn he hi hj (hX.1 e he) (d16 e he) (fun m bk' re' hm p R T => ?_)
        refine zy_merge h1 hn he hi hj hY.1 (hY.2 e he).1 (hY.2 e he).2 hm (p.trans ?_) (fun ro' => ⟨rfl, zr_up h1 hn he hm hX hY R (fun j _ hj => T j hj)⟩)
        exact zp_tg_c (zp_ptu (F := zp_dg (zt_c n (ks e))) (fun _ _ _ _ => Iff.rfl) hi hj)
theorem i_vc_move {k : Nat} {u : SX} {v : SY} (I : i_Rel k u v) (hk : k + 4 ≤ 2049) (v1 : Int32) (v2 : Int32) (v3 : Int32) : wpX_move (fun r u' => wpY_move (fun r' v' => r' = r ∧ i_Rel (k + 4) u' v') v v1 v2 v3) u v1 v2 v3 := by
  refine zr_el (P := fun u v => wpX_move (fun r u' => wpY_move (fun r' v' => r' = r ∧ i_Rel (k + 4) u' v') v v1 v2 v3) u v1 v2 v3) ?_ I
  intro n ks bk re pa wa pd ba co pr ct cx fo el ro ot nu tw h1 hn hX hY
  have hN7 := zt_N_le h1 hn
  have same : i_Rel (k + 4) (nI n, bk, re, pa, wa, pd, ba) (nI n, nI (zt_N n), co, pr, ct, cx, fo, el, ro, ot, nu, tw) := zr_in h1 hn hX hY
  have d7 : ∀ e, e < 2 → ∀ i, i < n → zp_dg (zt_c n (ks e)) i < 7 := fun e he => zt_rg h1 hn (hY.2 e he).1
  have d8 : ∀ e, e < 2 → ∀ i, i < n → zp_dg (zt_c n (ks e)) i < 8 := fun e _ i _ => zp_dg_lt _ i
  have d16 : ∀ e, e < 2 → ∀ i, i < n → zp_dg (zt_c n (ks e)) i < 16 := fun e _ i _ => by have := zp_dg_lt (zt_c n (ks e)) i; omega
  have tp : ∀ e, e < 2 → zt_p n (ks e) = zp_tg n (zp_dg (zt_c n (ks e))) := fun e he => (zt_all h1 hn (hY.2 e he).1).1
  rcases zb_el2 v1 with b1 | ⟨e, he, rfl⟩
  · unfold wpX_move
    try dsimp only
    refine zx_bE1 b1 (br_f zb_10 ?_)
    unfold wpY_move
    try dsimp only
    exact zy_bE1 b1 (br_f zb_10 ⟨rfl, same⟩)
  · rcases zb_pt2 v2 hn with b2 | ⟨i, hi, rfl⟩
    · unfold wpX_move
      try dsimp only
      refine zx_bE0 he (br_t rfl (zx_bP1 b2 (br_f zb_10 ?_)))
      unfold wpY_move
      try dsimp only
      exact zy_bE0 he (br_t rfl (zy_bP1 b2 (br_f zb_10 ⟨rfl, same⟩)))
    · rcases zb_pt2 v3 hn with b2 | ⟨j, hj, rfl⟩
      · unfold wpX_move
        try dsimp only
        refine zx_bE0 he (br_t rfl (zx_bP0 hn hi (br_t rfl (zx_bP1 b2 (br_f zb_10 ?_)))))
        unfold wpY_move
        try dsimp only
        exact zy_bE0 he (br_t rfl (zy_bP0 hn hi (br_t rfl (zy_bP1 b2 (br_f zb_10 ⟨rfl, same⟩)))))
      · refine zx_move h1 hn he hi hj (hX.1 e he) (d16 e he) (fun m bk' re' hm p R T => ?_)
        exact zy_move h1 hn he hi hj hY.1 (hY.2 e he).1 (hY.2 e he).2 hm p (fun ro' => ⟨rfl, zr_up h1 hn he hm hX hY R (fun j _ hj => T j hj)⟩)
theorem i_vc_turn {k : Nat} {u : SX} {v : SY} (I : i_Rel k u v) (hk : k + 4 ≤ 2049) (v1 : Int32) : wpX_turn (fun r u' => wpY_turn (fun r' v' => r' = r ∧ i_Rel (k + 4) u' v') v v1) u v1 := by
  refine zr_el (P := fun u v => wpX_turn (fun r u' => wpY_turn (fun r' v' => r' = r ∧ i_Rel (k + 4) u' v') v v1) u v1) ?_ I
  intro n ks bk re pa wa pd ba co pr ct cx fo el ro ot nu tw h1 hn hX hY
  have hN7 := zt_N_le h1 hn
  have same : i_Rel (k + 4) (nI n, bk, re, pa, wa, pd, ba) (nI n, nI (zt_N n), co, pr, ct, cx, fo, el, ro, ot, nu, tw) := zr_in h1 hn hX hY
  have d7 : ∀ e, e < 2 → ∀ i, i < n → zp_dg (zt_c n (ks e)) i < 7 := fun e he => zt_rg h1 hn (hY.2 e he).1
  have d8 : ∀ e, e < 2 → ∀ i, i < n → zp_dg (zt_c n (ks e)) i < 8 := fun e _ i _ => zp_dg_lt _ i
  have d16 : ∀ e, e < 2 → ∀ i, i < n → zp_dg (zt_c n (ks e)) i < 16 := fun e _ i _ => by have := zp_dg_lt (zt_c n (ks e)) i; omega
  have tp : ∀ e, e < 2 → zt_p n (ks e) = zp_tg n (zp_dg (zt_c n (ks e))) := fun e he => (zt_all h1 hn (hY.2 e he).1).1
  rcases zb_el2 v1 with b1 | ⟨e, he, rfl⟩
  · unfold wpX_turn
    try dsimp only
    refine zx_bE1 b1 (br_f zb_10 ?_)
    unfold wpY_turn
    try dsimp only
    exact zy_bE1 b1 (br_f zb_10 ⟨rfl, same⟩)
  · refine zx_turn h1 hn he (hX.1 e he) (d16 e he) (fun m bk' re' hm p R T => ?_)
    exact zy_turn h1 hn he hY.1 (hY.2 e he).1 (hY.2 e he).2 hm p (fun ro' => ⟨rfl, zr_up h1 hn he hm hX hY R (fun j _ hj => T j hj)⟩)
theorem i_vc_meet {k : Nat} {u : SX} {v : SY} (I : i_Rel k u v) (hk : k + 4 ≤ 2049) : wpX_meet (fun r u' => wpY_meet (fun r' v' => r' = r ∧ i_Rel (k + 4) u' v') v) u := by
  refine zr_el (P := fun u v => wpX_meet (fun r u' => wpY_meet (fun r' v' => r' = r ∧ i_Rel (k + 4) u' v') v) u) ?_ I
  intro n ks bk re pa wa pd ba co pr ct cx fo el ro ot nu tw h1 hn hX hY
  have hN7 := zt_N_le h1 hn
  have same : i_Rel (k + 4) (nI n, bk, re, pa, wa, pd, ba) (nI n, nI (zt_N n), co, pr, ct, cx, fo, el, ro, ot, nu, tw) := zr_in h1 hn hX hY
  have d7 : ∀ e, e < 2 → ∀ i, i < n → zp_dg (zt_c n (ks e)) i < 7 := fun e he => zt_rg h1 hn (hY.2 e he).1
  have d8 : ∀ e, e < 2 → ∀ i, i < n → zp_dg (zt_c n (ks e)) i < 8 := fun e _ i _ => zp_dg_lt _ i
  have d16 : ∀ e, e < 2 → ∀ i, i < n → zp_dg (zt_c n (ks e)) i < 16 := fun e _ i _ => by have := zp_dg_lt (zt_c n (ks e)) i; omega
  have tp : ∀ e, e < 2 → zt_p n (ks e) = zp_tg n (zp_dg (zt_c n (ks e))) := fun e he => (zt_all h1 hn (hY.2 e he).1).1
  have y0 := hY.2 0 (by omega)
  have y1 := hY.2 1 (by omega)
  refine zx_meet h1 hn (hX.1 0 (by omega)) (hX.1 1 (by omega)) (d8 0 (by omega)) (d8 1 (by omega)) (fun m bk' hm p R S => ?_)
  exact zy_meet h1 hn hY.1 y0.1 y1.1 y0.2 y1.2 hm p (fun ro' ot' => ⟨rfl, zr_up0 h1 hn hm hX hY R S⟩)
theorem i_vc_join {k : Nat} {u : SX} {v : SY} (I : i_Rel k u v) (hk : k + 4 ≤ 2049) : wpX_join (fun r u' => wpY_join (fun r' v' => r' = r ∧ i_Rel (k + 4) u' v') v) u := by
  refine zr_el (P := fun u v => wpX_join (fun r u' => wpY_join (fun r' v' => r' = r ∧ i_Rel (k + 4) u' v') v) u) ?_ I
  intro n ks bk re pa wa pd ba co pr ct cx fo el ro ot nu tw h1 hn hX hY
  have hN7 := zt_N_le h1 hn
  have same : i_Rel (k + 4) (nI n, bk, re, pa, wa, pd, ba) (nI n, nI (zt_N n), co, pr, ct, cx, fo, el, ro, ot, nu, tw) := zr_in h1 hn hX hY
  have d7 : ∀ e, e < 2 → ∀ i, i < n → zp_dg (zt_c n (ks e)) i < 7 := fun e he => zt_rg h1 hn (hY.2 e he).1
  have d8 : ∀ e, e < 2 → ∀ i, i < n → zp_dg (zt_c n (ks e)) i < 8 := fun e _ i _ => zp_dg_lt _ i
  have d16 : ∀ e, e < 2 → ∀ i, i < n → zp_dg (zt_c n (ks e)) i < 16 := fun e _ i _ => by have := zp_dg_lt (zt_c n (ks e)) i; omega
  have tp : ∀ e, e < 2 → zt_p n (ks e) = zp_tg n (zp_dg (zt_c n (ks e))) := fun e he => (zt_all h1 hn (hY.2 e he).1).1
  have y0 := hY.2 0 (by omega)
  have y1 := hY.2 1 (by omega)
  refine zx_join h1 hn (hX.1 0 (by omega)) (hX.1 1 (by omega)) (d8 0 (by omega)) (d8 1 (by omega)) (fun m bk' re' hm p R S => ?_)
  exact zy_join h1 hn hY.1 y0.1 y1.1 y0.2 y1.2 hm (p.trans (zp_tg_c (zp_jxy n _ _ (n * n) (Nat.le_refl _)))) (fun ro' ot' => ⟨rfl, zr_up0 h1 hn hm hX hY R S⟩)
theorem i_vc_uncross {k : Nat} {u : SX} {v : SY} (I : i_Rel k u v) (hk : k + 4 ≤ 2049) (v1 : Int32) : wpX_uncross (fun r u' => wpY_uncross (fun r' v' => r' = r ∧ i_Rel (k + 4) u' v') v v1) u v1 := by
  refine zr_el (P := fun u v => wpX_uncross (fun r u' => wpY_uncross (fun r' v' => r' = r ∧ i_Rel (k + 4) u' v') v v1) u v1) ?_ I
  intro n ks bk re pa wa pd ba co pr ct cx fo el ro ot nu tw h1 hn hX hY
  have hN7 := zt_N_le h1 hn
  have same : i_Rel (k + 4) (nI n, bk, re, pa, wa, pd, ba) (nI n, nI (zt_N n), co, pr, ct, cx, fo, el, ro, ot, nu, tw) := zr_in h1 hn hX hY
  have d7 : ∀ e, e < 2 → ∀ i, i < n → zp_dg (zt_c n (ks e)) i < 7 := fun e he => zt_rg h1 hn (hY.2 e he).1
  have d8 : ∀ e, e < 2 → ∀ i, i < n → zp_dg (zt_c n (ks e)) i < 8 := fun e _ i _ => zp_dg_lt _ i
  have d16 : ∀ e, e < 2 → ∀ i, i < n → zp_dg (zt_c n (ks e)) i < 16 := fun e _ i _ => by have := zp_dg_lt (zt_c n (ks e)) i; omega
  have tp : ∀ e, e < 2 → zt_p n (ks e) = zp_tg n (zp_dg (zt_c n (ks e))) := fun e he => (zt_all h1 hn (hY.2 e he).1).1
  rcases zb_el2 v1 with b1 | ⟨e, he, rfl⟩
  · unfold wpX_uncross
    try dsimp only
    refine zx_bE1 b1 (br_f zb_10 ?_)
    unfold wpY_uncross
    try dsimp only
    exact zy_bE1 b1 (br_f zb_10 ⟨rfl, same⟩)
  · obtain ⟨B, hB, pB, xB, fB, H⟩ := zt_unc h1 hn (hY.2 e he).1
    refine zx_unc h1 hn he (hX.1 e he) (fun m bk' re' hm p R T => ?_)
    have e1 : m = B := zt_pinj h1 hn hm hB (p.trans pB.symm)
    subst e1
    exact zy_unc h1 hn he hY.1 (hY.2 e he).1 (hY.2 e he).2 hm xB fB H ⟨rfl, zr_up h1 hn he hm hX hY R (fun j _ hj => T j hj)⟩
theorem i_vc_complement {k : Nat} {u : SX} {v : SY} (I : i_Rel k u v) (hk : k + 4 ≤ 2049) (v1 : Int32) : wpX_complement (fun r u' => wpY_complement (fun r' v' => r' = r ∧ i_Rel (k + 4) u' v') v v1) u v1 := by
  refine zr_el (P := fun u v => wpX_complement (fun r u' => wpY_complement (fun r' v' => r' = r ∧ i_Rel (k + 4) u' v') v v1) u v1) ?_ I
  intro n ks bk re pa wa pd ba co pr ct cx fo el ro ot nu tw h1 hn hX hY
  have hN7 := zt_N_le h1 hn
  have same : i_Rel (k + 4) (nI n, bk, re, pa, wa, pd, ba) (nI n, nI (zt_N n), co, pr, ct, cx, fo, el, ro, ot, nu, tw) := zr_in h1 hn hX hY
  have d7 : ∀ e, e < 2 → ∀ i, i < n → zp_dg (zt_c n (ks e)) i < 7 := fun e he => zt_rg h1 hn (hY.2 e he).1
  have d8 : ∀ e, e < 2 → ∀ i, i < n → zp_dg (zt_c n (ks e)) i < 8 := fun e _ i _ => zp_dg_lt _ i
  have d16 : ∀ e, e < 2 → ∀ i, i < n → zp_dg (zt_c n (ks e)) i < 16 := fun e _ i _ => by have := zp_dg_lt (zt_c n (ks e)) i; omega
  have tp : ∀ e, e < 2 → zt_p n (ks e) = zp_tg n (zp_dg (zt_c n (ks e))) := fun e he => (zt_all h1 hn (hY.2 e he).1).1
  rcases zb_el2 v1 with b1 | ⟨e, he, rfl⟩
  · unfold wpX_complement
    try dsimp only
    refine zx_bE1 b1 (br_f zb_10 ?_)
    unfold wpY_complement
    try dsimp only
    exact zy_bE1 b1 (br_f zb_10 ⟨rfl, same⟩)
  · have cr := zt_crs h1 hn (hY.2 e he).1
    refine zx_cmp h1 hn he (hX.1 e he) (d8 e he) (fun q => ?_) (fun q m bk' re' hm p R T => ?_)
    · refine zy_cmp h1 hn he hY.1 (hY.2 e he).1 (hY.2 e he).2 (fun _ => ⟨rfl, same⟩) (fun x0 => ?_)
      have := cr.1 q
      omega
    · have x0 := cr.2 q
      obtain ⟨B, hB, pB, vB, H, vl⟩ := zt_cmp h1 hn (hY.2 e he).1 x0
      have e1 : m = B := zt_pinj h1 hn hm hB (p.trans pB.symm)
      subst e1
      refine zy_cmp h1 hn he hY.1 (hY.2 e he).1 (hY.2 e he).2 (fun x1 => by omega) (fun _ => ⟨m, hm, vB, H, vl, fun ro' nu' tw' => ⟨rfl, zr_up h1 hn he hm hX hY R T⟩⟩)
theorem i_vc_code {k : Nat} {u : SX} {v : SY} (I : i_Rel k u v) (hk : k + 4 ≤ 2049) (v1 : Int32) : wpX_code (fun r => wpY_code (fun r' => r' = r ∧ i_Rel (k + 4) u v) v v1) u v1 := by
  refine zr_el (P := fun u v => wpX_code (fun r => wpY_code (fun r' => r' = r ∧ i_Rel (k + 4) u v) v v1) u v1) ?_ I
  intro n ks bk re pa wa pd ba co pr ct cx fo el ro ot nu tw h1 hn hX hY
  have hN7 := zt_N_le h1 hn
  have same : i_Rel (k + 4) (nI n, bk, re, pa, wa, pd, ba) (nI n, nI (zt_N n), co, pr, ct, cx, fo, el, ro, ot, nu, tw) := zr_in h1 hn hX hY
  have d7 : ∀ e, e < 2 → ∀ i, i < n → zp_dg (zt_c n (ks e)) i < 7 := fun e he => zt_rg h1 hn (hY.2 e he).1
  have d8 : ∀ e, e < 2 → ∀ i, i < n → zp_dg (zt_c n (ks e)) i < 8 := fun e _ i _ => zp_dg_lt _ i
  have d16 : ∀ e, e < 2 → ∀ i, i < n → zp_dg (zt_c n (ks e)) i < 16 := fun e _ i _ => by have := zp_dg_lt (zt_c n (ks e)) i; omega
  have tp : ∀ e, e < 2 → zt_p n (ks e) = zp_tg n (zp_dg (zt_c n (ks e))) := fun e he => (zt_all h1 hn (hY.2 e he).1).1
  rcases zb_el2 v1 with b1 | ⟨e, he, rfl⟩
  · unfold wpX_code
    try dsimp only
    refine zx_bE1 b1 (br_f zb_10 ?_)
    unfold wpY_code
    try dsimp only
    exact zy_bE1 b1 (br_f zb_10 ⟨rfl, same⟩)
  · have hk0 := (hY.2 e he).1
    have ta := zt_all h1 hn hk0
    unfold wpX_code
    try dsimp only
    refine zx_bE0 he (br_t rfl ?_)
    refine zx_cod h1 hn he (hX.1 e he) ?_
    rw [zp_en_dg, Nat.mod_eq_of_lt (zt_lt h1 hn hk0).1]
    unfold wpY_code
    try dsimp only
    refine zy_bE0 he ?_
    rw [nI_clamp (by omega : e < 2 ^ 31), (hY.2 e he).2, nI_clamp (by omega : ks e < 2 ^ 31), (hY.1 (ks e) hk0).1]
    exact br_t rfl ⟨vp_in_nI he (by omega), vp_in_nI (by omega) (by omega), rfl, same⟩
theorem i_vc_blocks {k : Nat} {u : SX} {v : SY} (I : i_Rel k u v) (hk : k + 4 ≤ 2049) (v1 : Int32) : wpX_blocks (fun r => wpY_blocks (fun r' => r' = r ∧ i_Rel (k + 4) u v) v v1) u v1 := by
  refine zr_el (P := fun u v => wpX_blocks (fun r => wpY_blocks (fun r' => r' = r ∧ i_Rel (k + 4) u v) v v1) u v1) ?_ I
  intro n ks bk re pa wa pd ba co pr ct cx fo el ro ot nu tw h1 hn hX hY
  have hN7 := zt_N_le h1 hn
  have same : i_Rel (k + 4) (nI n, bk, re, pa, wa, pd, ba) (nI n, nI (zt_N n), co, pr, ct, cx, fo, el, ro, ot, nu, tw) := zr_in h1 hn hX hY
  have d7 : ∀ e, e < 2 → ∀ i, i < n → zp_dg (zt_c n (ks e)) i < 7 := fun e he => zt_rg h1 hn (hY.2 e he).1
  have d8 : ∀ e, e < 2 → ∀ i, i < n → zp_dg (zt_c n (ks e)) i < 8 := fun e _ i _ => zp_dg_lt _ i
  have d16 : ∀ e, e < 2 → ∀ i, i < n → zp_dg (zt_c n (ks e)) i < 16 := fun e _ i _ => by have := zp_dg_lt (zt_c n (ks e)) i; omega
  have tp : ∀ e, e < 2 → zt_p n (ks e) = zp_tg n (zp_dg (zt_c n (ks e))) := fun e he => (zt_all h1 hn (hY.2 e he).1).1
  rcases zb_el2 v1 with b1 | ⟨e, he, rfl⟩
  · unfold wpX_blocks
    try dsimp only
    refine zx_bE1 b1 (br_f zb_10 ?_)
    unfold wpY_blocks
    try dsimp only
    exact zy_bE1 b1 (br_f zb_10 ⟨rfl, same⟩)
  · have hk0 := (hY.2 e he).1
    have ta := zt_all h1 hn hk0
    unfold wpX_blocks
    try dsimp only
    refine zx_bE0 he (br_t rfl ?_)
    refine zx_cnt hn he (hX.1 e he) (d16 e he) ?_
    rw [← ta.2.1]
    unfold wpY_blocks
    try dsimp only
    refine zy_bE0 he ?_
    rw [nI_clamp (by omega : e < 2 ^ 31), (hY.2 e he).2, nI_clamp (by omega : ks e < 2 ^ 31), (hY.1 (ks e) hk0).2.2.1]
    exact br_t rfl ⟨vp_in_nI he (by omega), vp_in_nI (by omega) (by omega), rfl, same⟩
theorem i_vc_size {k : Nat} {u : SX} {v : SY} (I : i_Rel k u v) (hk : k + 4 ≤ 2049) (v1 : Int32) (v2 : Int32) : wpX_size (fun r => wpY_size (fun r' v' => r' = r ∧ i_Rel (k + 4) u v') v v1 v2) u v1 v2 := by
  refine zr_el (P := fun u v => wpX_size (fun r => wpY_size (fun r' v' => r' = r ∧ i_Rel (k + 4) u v') v v1 v2) u v1 v2) ?_ I
  intro n ks bk re pa wa pd ba co pr ct cx fo el ro ot nu tw h1 hn hX hY
  have hN7 := zt_N_le h1 hn
  have same : i_Rel (k + 4) (nI n, bk, re, pa, wa, pd, ba) (nI n, nI (zt_N n), co, pr, ct, cx, fo, el, ro, ot, nu, tw) := zr_in h1 hn hX hY
  have d7 : ∀ e, e < 2 → ∀ i, i < n → zp_dg (zt_c n (ks e)) i < 7 := fun e he => zt_rg h1 hn (hY.2 e he).1
  have d8 : ∀ e, e < 2 → ∀ i, i < n → zp_dg (zt_c n (ks e)) i < 8 := fun e _ i _ => zp_dg_lt _ i
  have d16 : ∀ e, e < 2 → ∀ i, i < n → zp_dg (zt_c n (ks e)) i < 16 := fun e _ i _ => by have := zp_dg_lt (zt_c n (ks e)) i; omega
  have tp : ∀ e, e < 2 → zt_p n (ks e) = zp_tg n (zp_dg (zt_c n (ks e))) := fun e he => (zt_all h1 hn (hY.2 e he).1).1
  rcases zb_el2 v1 with b1 | ⟨e, he, rfl⟩
  · unfold wpX_size
    try dsimp only
    refine zx_bE1 b1 (br_f zb_10 ?_)
    unfold wpY_size
    try dsimp only
    exact zy_bE1 b1 (br_f zb_10 ⟨rfl, same⟩)
  · rcases zb_pt2 v2 hn with b2 | ⟨i, hi, rfl⟩
    · unfold wpX_size
      try dsimp only
      refine zx_bE0 he (br_t rfl (zx_bP1 b2 (br_f zb_10 ?_)))
      unfold wpY_size
      try dsimp only
      exact zy_bE0 he (br_t rfl (zy_bP1 b2 (br_f zb_10 ⟨rfl, same⟩)))
    · unfold wpX_size
      try dsimp only
      refine zx_bE0 he (br_t rfl (zx_bP0 hn hi (br_t rfl ?_)))
      refine zx_at hn he hi (hX.1 e he) ?_
      refine zx_siz hn he (hX.1 e he) (d16 e he) (d16 e he i hi) ?_
      exact zy_size h1 hn he hi hY.1 (hY.2 e he).1 (hY.2 e he).2 (fun ro' => ⟨rfl, zr_in h1 hn hX hY⟩)
theorem i_vc_crosses {k : Nat} {u : SX} {v : SY} (I : i_Rel k u v) (hk : k + 4 ≤ 2049) (v1 : Int32) : wpX_crosses (fun r => wpY_crosses (fun r' => r' = r ∧ i_Rel (k + 4) u v) v v1) u v1 := by
  refine zr_el (P := fun u v => wpX_crosses (fun r => wpY_crosses (fun r' => r' = r ∧ i_Rel (k + 4) u v) v v1) u v1) ?_ I
  intro n ks bk re pa wa pd ba co pr ct cx fo el ro ot nu tw h1 hn hX hY
  have hN7 := zt_N_le h1 hn
  have same : i_Rel (k + 4) (nI n, bk, re, pa, wa, pd, ba) (nI n, nI (zt_N n), co, pr, ct, cx, fo, el, ro, ot, nu, tw) := zr_in h1 hn hX hY
  have d7 : ∀ e, e < 2 → ∀ i, i < n → zp_dg (zt_c n (ks e)) i < 7 := fun e he => zt_rg h1 hn (hY.2 e he).1
  have d8 : ∀ e, e < 2 → ∀ i, i < n → zp_dg (zt_c n (ks e)) i < 8 := fun e _ i _ => zp_dg_lt _ i
  have d16 : ∀ e, e < 2 → ∀ i, i < n → zp_dg (zt_c n (ks e)) i < 16 := fun e _ i _ => by have := zp_dg_lt (zt_c n (ks e)) i; omega
  have tp : ∀ e, e < 2 → zt_p n (ks e) = zp_tg n (zp_dg (zt_c n (ks e))) := fun e he => (zt_all h1 hn (hY.2 e he).1).1
  rcases zb_el2 v1 with b1 | ⟨e, he, rfl⟩
  · unfold wpX_crosses
    try dsimp only
    refine zx_bE1 b1 (br_f zb_10 ?_)
    unfold wpY_crosses
    try dsimp only
    exact zy_bE1 b1 (br_f zb_10 ⟨rfl, same⟩)
  · have hk0 := (hY.2 e he).1
    have ta := zt_all h1 hn hk0
    have cr := zt_crs h1 hn hk0
    unfold wpX_crosses
    try dsimp only
    refine zx_bE0 he (br_t rfl ?_)
    refine zx_crs hn he (hX.1 e he) (d8 e he) ?_
    cases q : zp_xa n (zp_dg (zt_c n (ks e))) 49
    · refine br_t rfl ?_
      unfold wpY_crosses
      try dsimp only
      refine zy_bE0 he ?_
      rw [nI_clamp (by omega : e < 2 ^ 31), (hY.2 e he).2, nI_clamp (by omega : ks e < 2 ^ 31), (hY.1 (ks e) hk0).2.2.2, cr.2 q]
      exact br_t rfl ⟨vp_in_nI he (by omega), vp_in_nI (by omega) (by omega), br_t rfl ⟨rfl, same⟩⟩
    · refine br_f zb_10 ?_
      unfold wpY_crosses
      try dsimp only
      refine zy_bE0 he ?_
      rw [nI_clamp (by omega : e < 2 ^ 31), (hY.2 e he).2, nI_clamp (by omega : ks e < 2 ^ 31), (hY.1 (ks e) hk0).2.2.2, cr.1 q]
      exact br_t rfl ⟨vp_in_nI he (by omega), vp_in_nI (by omega) (by omega), br_f zb_10 ⟨rfl, same⟩⟩
theorem i_vc_rank {k : Nat} {u : SX} {v : SY} (I : i_Rel k u v) (hk : k + 4 ≤ 2049) (v1 : Int32) : wpX_rank (fun r => wpY_rank (fun r' => r' = r ∧ i_Rel (k + 4) u v) v v1) u v1 := by
  refine zr_el (P := fun u v => wpX_rank (fun r => wpY_rank (fun r' => r' = r ∧ i_Rel (k + 4) u v) v v1) u v1) ?_ I
  intro n ks bk re pa wa pd ba co pr ct cx fo el ro ot nu tw h1 hn hX hY
  have hN7 := zt_N_le h1 hn
  have same : i_Rel (k + 4) (nI n, bk, re, pa, wa, pd, ba) (nI n, nI (zt_N n), co, pr, ct, cx, fo, el, ro, ot, nu, tw) := zr_in h1 hn hX hY
  have d7 : ∀ e, e < 2 → ∀ i, i < n → zp_dg (zt_c n (ks e)) i < 7 := fun e he => zt_rg h1 hn (hY.2 e he).1
  have d8 : ∀ e, e < 2 → ∀ i, i < n → zp_dg (zt_c n (ks e)) i < 8 := fun e _ i _ => zp_dg_lt _ i
  have d16 : ∀ e, e < 2 → ∀ i, i < n → zp_dg (zt_c n (ks e)) i < 16 := fun e _ i _ => by have := zp_dg_lt (zt_c n (ks e)) i; omega
  have tp : ∀ e, e < 2 → zt_p n (ks e) = zp_tg n (zp_dg (zt_c n (ks e))) := fun e he => (zt_all h1 hn (hY.2 e he).1).1
  rcases zb_el2 v1 with b1 | ⟨e, he, rfl⟩
  · unfold wpX_rank
    try dsimp only
    refine zx_bE1 b1 (br_f zb_10 ?_)
    unfold wpY_rank
    try dsimp only
    exact zy_bE1 b1 (br_f zb_10 ⟨rfl, same⟩)
  · have hk0 := (hY.2 e he).1
    have ta := zt_all h1 hn hk0
    refine zx_ran hn he hX.2.1 (hX.1 e he) (d8 e he) ?_
    rw [zt_rank h1 hn hk0]
    unfold wpY_rank
    try dsimp only
    refine zy_bE0 he ?_
    rw [nI_clamp (by omega : e < 2 ^ 31), (hY.2 e he).2]
    exact br_t rfl ⟨vp_in_nI he (by omega), rfl, same⟩
theorem i_vc_partition {k : Nat} {u : SX} {v : SY} (I : i_Rel k u v) (hk : k + 4 ≤ 2049) (v1 : Int32) : wpX_partition (fun r => wpY_partition (fun r' => r' = r ∧ i_Rel (k + 4) u v) v v1) u v1 := by
  refine zr_el (P := fun u v => wpX_partition (fun r => wpY_partition (fun r' => r' = r ∧ i_Rel (k + 4) u v) v v1) u v1) ?_ I
  intro n ks bk re pa wa pd ba co pr ct cx fo el ro ot nu tw h1 hn hX hY
  have hN7 := zt_N_le h1 hn
  have same : i_Rel (k + 4) (nI n, bk, re, pa, wa, pd, ba) (nI n, nI (zt_N n), co, pr, ct, cx, fo, el, ro, ot, nu, tw) := zr_in h1 hn hX hY
  have d7 : ∀ e, e < 2 → ∀ i, i < n → zp_dg (zt_c n (ks e)) i < 7 := fun e he => zt_rg h1 hn (hY.2 e he).1
  have d8 : ∀ e, e < 2 → ∀ i, i < n → zp_dg (zt_c n (ks e)) i < 8 := fun e _ i _ => zp_dg_lt _ i
  have d16 : ∀ e, e < 2 → ∀ i, i < n → zp_dg (zt_c n (ks e)) i < 16 := fun e _ i _ => by have := zp_dg_lt (zt_c n (ks e)) i; omega
  have tp : ∀ e, e < 2 → zt_p n (ks e) = zp_tg n (zp_dg (zt_c n (ks e))) := fun e he => (zt_all h1 hn (hY.2 e he).1).1
  obtain ⟨w0, hp⟩ := zt_part h1 hn
  refine zx_par hn hX.2.1 (fun h => ?_) (fun m hm ex => ?_)
  · rcases h with h | ⟨m, hm, ex, hw⟩
    · exact br_t h ⟨rfl, same⟩
    · subst ex
      exact br_f (nI_pos hm) (br_f (nI_nlt (by omega) hm) ⟨rfl, same⟩)
  · subst ex
    rw [w0] at hm
    rw [hp m hm]
    refine br_f (nI_pos (by omega)) (br_t (nI_lt hm (by omega)) ?_)
    rw [nI_clamp (by omega : m < 2 ^ 31), (hY.1 m hm).1]
    exact ⟨vp_in_nI (by omega) (by omega), rfl, same⟩
theorem i_vc_finer {k : Nat} {u : SX} {v : SY} (I : i_Rel k u v) (hk : k + 4 ≤ 2049) : wpX_finer (fun r => wpY_finer (fun r' => r' = r ∧ i_Rel (k + 4) u v) v) u := by
  refine zr_el (P := fun u v => wpX_finer (fun r => wpY_finer (fun r' => r' = r ∧ i_Rel (k + 4) u v) v) u) ?_ I
  intro n ks bk re pa wa pd ba co pr ct cx fo el ro ot nu tw h1 hn hX hY
  have hN7 := zt_N_le h1 hn
  have same : i_Rel (k + 4) (nI n, bk, re, pa, wa, pd, ba) (nI n, nI (zt_N n), co, pr, ct, cx, fo, el, ro, ot, nu, tw) := zr_in h1 hn hX hY
  have d7 : ∀ e, e < 2 → ∀ i, i < n → zp_dg (zt_c n (ks e)) i < 7 := fun e he => zt_rg h1 hn (hY.2 e he).1
  have d8 : ∀ e, e < 2 → ∀ i, i < n → zp_dg (zt_c n (ks e)) i < 8 := fun e _ i _ => zp_dg_lt _ i
  have d16 : ∀ e, e < 2 → ∀ i, i < n → zp_dg (zt_c n (ks e)) i < 16 := fun e _ i _ => by have := zp_dg_lt (zt_c n (ks e)) i; omega
  have tp : ∀ e, e < 2 → zt_p n (ks e) = zp_tg n (zp_dg (zt_c n (ks e))) := fun e he => (zt_all h1 hn (hY.2 e he).1).1
  have y0 := hY.2 0 (by omega)
  have y1 := hY.2 1 (by omega)
  unfold wpX_finer
  try dsimp only
  refine zx_isf h1 hn (hX.1 0 (by omega)) (hX.1 1 (by omega)) (d8 0 (by omega)) (d8 1 (by omega)) ?_
  rw [← tp 0 (by omega), ← tp 1 (by omega)]
  cases q : zp_fn (zt_p n (ks 0)) (zt_p n (ks 1))
  · refine br_t rfl ?_
    unfold wpY_finer
    try dsimp only
    rw [y0.2, y1.2]
    refine zy_isf h1 hn hY.1 y0.1 y1.1 ?_
    rw [q]
    exact br_t rfl ⟨rfl, same⟩
  · refine br_f zb_10 ?_
    unfold wpY_finer
    try dsimp only
    rw [y0.2, y1.2]
    refine zy_isf h1 hn hY.1 y0.1 y1.1 ?_
    rw [q]
    exact br_f zb_10 ⟨rfl, same⟩
theorem i_vc_interval {k : Nat} {u : SX} {v : SY} (I : i_Rel k u v) (hk : k + 4 ≤ 2049) : wpX_interval (fun r u' => wpY_interval (fun r' => r' = r ∧ i_Rel (k + 4) u' v) v) u := by
  refine zr_el (P := fun u v => wpX_interval (fun r u' => wpY_interval (fun r' => r' = r ∧ i_Rel (k + 4) u' v) v) u) ?_ I
  intro n ks bk re pa wa pd ba co pr ct cx fo el ro ot nu tw h1 hn hX hY
  have hN7 := zt_N_le h1 hn
  have same : i_Rel (k + 4) (nI n, bk, re, pa, wa, pd, ba) (nI n, nI (zt_N n), co, pr, ct, cx, fo, el, ro, ot, nu, tw) := zr_in h1 hn hX hY
  have d7 : ∀ e, e < 2 → ∀ i, i < n → zp_dg (zt_c n (ks e)) i < 7 := fun e he => zt_rg h1 hn (hY.2 e he).1
  have d8 : ∀ e, e < 2 → ∀ i, i < n → zp_dg (zt_c n (ks e)) i < 8 := fun e _ i _ => zp_dg_lt _ i
  have d16 : ∀ e, e < 2 → ∀ i, i < n → zp_dg (zt_c n (ks e)) i < 16 := fun e _ i _ => by have := zp_dg_lt (zt_c n (ks e)) i; omega
  have tp : ∀ e, e < 2 → zt_p n (ks e) = zp_tg n (zp_dg (zt_c n (ks e))) := fun e he => (zt_all h1 hn (hY.2 e he).1).1
  have y0 := hY.2 0 (by omega)
  have y1 := hY.2 1 (by omega)
  refine zx_int h1 hn hX.2.1 (hX.1 0 (by omega)) (hX.1 1 (by omega)) (d7 0 (by omega)) (d7 1 (by omega)) (fun q => ?_) (fun q pa' => ?_)
  · rw [← tp 0 (by omega), ← tp 1 (by omega)] at q
    refine zy_int h1 hn hY.1 y0.1 y1.1 y0.2 y1.2 ⟨?_, same⟩
    rw [zp_cn_0 _ (fun r _ => ?_)]
    · rfl
    · cases w : (zp_fn (zt_p n (ks 0)) (zt_p n r) && zp_fn (zt_p n r) (zt_p n (ks 1)))
      · rfl
      · rw [Bool.and_eq_true] at w
        rw [zp_fn_tr w.1 w.2] at q
        exact absurd q (by decide)
  · rw [← tp 0 (by omega), ← tp 1 (by omega)] at q
    refine zy_int h1 hn hY.1 y0.1 y1.1 y0.2 y1.2 ⟨?_, zr_in h1 hn hX hY⟩
    exact congrArg nI (zt_int h1 hn y0.1 y1.1 q).2.1
theorem i_vc_fullChains {k : Nat} {u : SX} {v : SY} (I : i_Rel k u v) (hk : k + 4 ≤ 2049) : wpX_fullChains (fun r u' => wpY_fullChains (fun r' v' => r' = r ∧ i_Rel (k + 4) u' v') v) u := by
  refine zr_el (P := fun u v => wpX_fullChains (fun r u' => wpY_fullChains (fun r' v' => r' = r ∧ i_Rel (k + 4) u' v') v) u) ?_ I
  intro n ks bk re pa wa pd ba co pr ct cx fo el ro ot nu tw h1 hn hX hY
  have hN7 := zt_N_le h1 hn
  have same : i_Rel (k + 4) (nI n, bk, re, pa, wa, pd, ba) (nI n, nI (zt_N n), co, pr, ct, cx, fo, el, ro, ot, nu, tw) := zr_in h1 hn hX hY
  have d7 : ∀ e, e < 2 → ∀ i, i < n → zp_dg (zt_c n (ks e)) i < 7 := fun e he => zt_rg h1 hn (hY.2 e he).1
  have d8 : ∀ e, e < 2 → ∀ i, i < n → zp_dg (zt_c n (ks e)) i < 8 := fun e _ i _ => zp_dg_lt _ i
  have d16 : ∀ e, e < 2 → ∀ i, i < n → zp_dg (zt_c n (ks e)) i < 16 := fun e _ i _ => by have := zp_dg_lt (zt_c n (ks e)) i; omega
  have tp : ∀ e, e < 2 → zt_p n (ks e) = zp_tg n (zp_dg (zt_c n (ks e))) := fun e he => (zt_all h1 hn (hY.2 e he).1).1
  have y0 := hY.2 0 (by omega)
  have y1 := hY.2 1 (by omega)
  have HL : ∀ r, r < zt_N n → zp_fn (zt_p n (ks 0)) (zt_p n r) = true → zp_fn (zt_p n r) (zt_p n (ks 1)) = true → nI ((fun r => (zp_co (zt_g n (ks 0) r) 7).1) r) = if r = ks 0 then 1 else cond true (nI (zp_sm (zp_wc n true (ks 0) r) (fun r => (zp_co (zt_g n (ks 0) r) 7).1) (zt_N n))) (-nI (zp_sm (zp_wc n true (ks 0) r) (fun r => (zp_co (zt_g n (ks 0) r) 7).1) (zt_N n))) := by
    intro r hr f1 _
    have z := zt_int h1 hn y0.1 hr f1
    by_cases e : r = ks 0
    · rw [if_pos e]
      show nI (zp_co (zt_g n (ks 0) r) 7).1 = 1
      rw [(z.2.2.1 e).1]
      rfl
    · rw [if_neg e]
      exact congrArg nI (z.2.2.2 e).1
  have go : ∀ {post : Int32 → SY → Prop}, (zp_fn (zt_p n (ks 0)) (zt_p n (ks 1)) = false → post 0 (nI n, nI (zt_N n), co, pr, ct, cx, fo, el, ro, ot, nu, tw)) → (zp_fn (zt_p n (ks 0)) (zt_p n (ks 1)) = true → ∀ fo' : Nat → Int32, post (nI (zp_co (zt_g n (ks 0) (ks 1)) 7).1) (nI n, nI (zt_N n), co, pr, ct, cx, fo', el, ro, ot, nu, tw)) → wpY_fullChains post (nI n, nI (zt_N n), co, pr, ct, cx, fo, el, ro, ot, nu, tw) := by
    intro post K0 K1
    unfold wpY_fullChains
    try dsimp only
    exact zy_work (ch := true) h1 hn hY.1 y0.1 y1.1 y0.2 y1.2 HL K0 K1
  refine zx_fch h1 hn (hX.1 0 (by omega)) (hX.1 1 (by omega)) (d7 0 (by omega)) (d7 1 (by omega)) (fun q => ?_) (fun q => ?_) (fun q pa' => ?_)
  · rw [← tp 0 (by omega), ← tp 1 (by omega)] at q
    refine go (fun _ => ⟨rfl, same⟩) (fun w => ?_)
    rw [q] at w
    exact absurd w (by decide)
  · rw [← tp 0 (by omega), ← tp 1 (by omega)] at q
    exact (zt_int h1 hn y0.1 y1.1 q).1
  · rw [← tp 0 (by omega), ← tp 1 (by omega)] at q
    refine go (fun w => ?_) (fun _ fo' => ⟨rfl, zr_in h1 hn hX hY⟩)
    rw [q] at w
    exact absurd w (by decide)
theorem i_vc_sign {k : Nat} {u : SX} {v : SY} (I : i_Rel k u v) (hk : k + 4 ≤ 2049) : wpX_sign (fun r u' => wpY_sign (fun r' v' => r' = r ∧ i_Rel (k + 4) u' v') v) u := by
  refine zr_el (P := fun u v => wpX_sign (fun r u' => wpY_sign (fun r' v' => r' = r ∧ i_Rel (k + 4) u' v') v) u) ?_ I
  intro n ks bk re pa wa pd ba co pr ct cx fo el ro ot nu tw h1 hn hX hY
  have hN7 := zt_N_le h1 hn
  have same : i_Rel (k + 4) (nI n, bk, re, pa, wa, pd, ba) (nI n, nI (zt_N n), co, pr, ct, cx, fo, el, ro, ot, nu, tw) := zr_in h1 hn hX hY
  have d7 : ∀ e, e < 2 → ∀ i, i < n → zp_dg (zt_c n (ks e)) i < 7 := fun e he => zt_rg h1 hn (hY.2 e he).1
  have d8 : ∀ e, e < 2 → ∀ i, i < n → zp_dg (zt_c n (ks e)) i < 8 := fun e _ i _ => zp_dg_lt _ i
  have d16 : ∀ e, e < 2 → ∀ i, i < n → zp_dg (zt_c n (ks e)) i < 16 := fun e _ i _ => by have := zp_dg_lt (zt_c n (ks e)) i; omega
  have tp : ∀ e, e < 2 → zt_p n (ks e) = zp_tg n (zp_dg (zt_c n (ks e))) := fun e he => (zt_all h1 hn (hY.2 e he).1).1
  have y0 := hY.2 0 (by omega)
  have y1 := hY.2 1 (by omega)
  have HL : ∀ r, r < zt_N n → zp_fn (zt_p n (ks 0)) (zt_p n r) = true → zp_fn (zt_p n r) (zt_p n (ks 1)) = true → nI ((fun r => zp_sg (zt_g n (ks 0) r) 7) r) = if r = ks 0 then 1 else cond false (nI (zp_sm (zp_wc n false (ks 0) r) (fun r => zp_sg (zt_g n (ks 0) r) 7) (zt_N n))) (-nI (zp_sm (zp_wc n false (ks 0) r) (fun r => zp_sg (zt_g n (ks 0) r) 7) (zt_N n))) := by
    intro r hr f1 _
    have z := zt_int h1 hn y0.1 hr f1
    by_cases e : r = ks 0
    · rw [if_pos e]
      show nI (zp_sg (zt_g n (ks 0) r) 7) = 1
      rw [(z.2.2.1 e).2]
      rfl
    · rw [if_neg e]
      have y := (z.2.2.2 e).2
      show nI (zp_sg (zt_g n (ks 0) r) 7) = -nI (zp_sm (zp_wc n false (ks 0) r) (fun r => zp_sg (zt_g n (ks 0) r) 7) (zt_N n))
      rw [zb_neg]
      apply zb_mod
      generalize zp_sm (zp_wc n false (ks 0) r) (fun s => zp_sg (zt_g n (ks 0) s) 7) (zt_N n) = A at y ⊢
      omega
  have go : ∀ {post : Int32 → SY → Prop}, (zp_fn (zt_p n (ks 0)) (zt_p n (ks 1)) = false → post 0 (nI n, nI (zt_N n), co, pr, ct, cx, fo, el, ro, ot, nu, tw)) → (zp_fn (zt_p n (ks 0)) (zt_p n (ks 1)) = true → ∀ fo' : Nat → Int32, post (nI (zp_sg (zt_g n (ks 0) (ks 1)) 7)) (nI n, nI (zt_N n), co, pr, ct, cx, fo', el, ro, ot, nu, tw)) → wpY_sign post (nI n, nI (zt_N n), co, pr, ct, cx, fo, el, ro, ot, nu, tw) := by
    intro post K0 K1
    unfold wpY_sign
    try dsimp only
    exact zy_work (ch := false) h1 hn hY.1 y0.1 y1.1 y0.2 y1.2 HL K0 K1
  refine zx_sgn h1 hn hX.2.2.1 (hX.1 0 (by omega)) (hX.1 1 (by omega)) (d7 0 (by omega)) (d7 1 (by omega)) (fun q => ?_) (fun q pa' => ?_)
  · rw [← tp 0 (by omega), ← tp 1 (by omega)] at q
    refine go (fun _ => ⟨rfl, same⟩) (fun w => ?_)
    rw [q] at w
    exact absurd w (by decide)
  · rw [← tp 0 (by omega), ← tp 1 (by omega)] at q
    refine go (fun w => ?_) (fun _ fo' => ⟨rfl, zr_in h1 hn hX hY⟩)
    rw [q] at w
    exact absurd w (by decide)
theorem i_vc_uncrossed {k : Nat} {u : SX} {v : SY} (I : i_Rel k u v) (hk : k + 4 ≤ 2049) (v1 : Int32) : wpX_uncrossed (fun r => wpY_uncrossed (fun r' => r' = r ∧ i_Rel (k + 4) u v) v v1) u v1 := by
  refine zr_el (P := fun u v => wpX_uncrossed (fun r => wpY_uncrossed (fun r' => r' = r ∧ i_Rel (k + 4) u v) v v1) u v1) ?_ I
  intro n ks bk re pa wa pd ba co pr ct cx fo el ro ot nu tw h1 hn hX hY
  have hN7 := zt_N_le h1 hn
  have same : i_Rel (k + 4) (nI n, bk, re, pa, wa, pd, ba) (nI n, nI (zt_N n), co, pr, ct, cx, fo, el, ro, ot, nu, tw) := zr_in h1 hn hX hY
  have d7 : ∀ e, e < 2 → ∀ i, i < n → zp_dg (zt_c n (ks e)) i < 7 := fun e he => zt_rg h1 hn (hY.2 e he).1
  have d8 : ∀ e, e < 2 → ∀ i, i < n → zp_dg (zt_c n (ks e)) i < 8 := fun e _ i _ => zp_dg_lt _ i
  have d16 : ∀ e, e < 2 → ∀ i, i < n → zp_dg (zt_c n (ks e)) i < 16 := fun e _ i _ => by have := zp_dg_lt (zt_c n (ks e)) i; omega
  have tp : ∀ e, e < 2 → zt_p n (ks e) = zp_tg n (zp_dg (zt_c n (ks e))) := fun e he => (zt_all h1 hn (hY.2 e he).1).1
  rcases zb_el2 v1 with b1 | ⟨e, he, rfl⟩
  · unfold wpX_uncrossed
    try dsimp only
    refine zx_bE1 b1 (br_f zb_10 ?_)
    unfold wpY_uncrossed
    try dsimp only
    exact zy_bE1 b1 (br_f zb_10 ⟨rfl, same⟩)
  · have hk0 := (hY.2 e he).1
    have cr := zt_crs h1 hn hk0
    refine zx_unr hn he hX.2.2.2 (hX.1 e he) (d7 e he) (fun q => ?_) (fun q => ?_)
    · refine zy_unr h1 hn he hY.1 hk0 (hY.2 e he).2 (fun _ => ⟨rfl, same⟩) (fun x0 => ?_)
      have := cr.1 q
      omega
    · have x0 := cr.2 q
      refine zy_unr h1 hn he hY.1 hk0 (hY.2 e he).2 (fun x1 => by omega) (fun _ => ⟨?_, same⟩)
      exact congrArg nI (zt_unr h1 hn hk0 x0)
end
