section
theorem pk_us {f : Nat → Int32} {k : Nat} {x : Int32} : upd f k x k = x := if_pos rfl
theorem pk_un {f : Nat → Int32} {k j : Nat} {x : Int32} (h : j ≠ k) : upd f k x j = f j := if_neg h
theorem pk_sub {a b : Nat} (h : b ≤ a) : nI a - nI b = nI (a - b) := by
  obtain ⟨c, rfl⟩ : ∃ c, a = c + b := ⟨a - b, by omega⟩
  rw [← nI_add, Int32.add_sub_cancel, Nat.add_sub_cancel]
theorem pk_m1 (n : Nat) : nI (n + 1) + (-1) = nI n := by
  rw [← nI_1, Int32.add_assoc, show (1 : Int32) + (-1) = 0 from rfl, Int32.add_zero]
theorem pk_mul (a b : Nat) : nI a * nI b = nI (a * b) := (Int32.ofNat_mul a b).symm
theorem pk_div {a d : Nat} (ha : a < 2 ^ 31) (h0 : 0 < d) (hd : d < 2 ^ 31) : nI a / nI d = nI (a / d) := by
  apply Int32.toInt_inj.mp
  rw [lg_idiv_nonneg (by rw [nI_toInt ha]; omega) (by rw [nI_toInt hd]; omega), nI_toInt ha, nI_toInt hd, nI_toInt (Nat.lt_of_le_of_lt (Nat.div_le_self a d) ha)]
  first | rfl | exact (Int.natCast_ediv _ _).symm
theorem pk_rem {a d : Nat} (ha : a < 2 ^ 31) (h0 : 0 < d) (hd : d < 2 ^ 31) : nI a - nI a / nI d * nI d = nI (a % d) := by
  rw [pk_div ha h0 hd, pk_mul, pk_sub (Nat.div_mul_le_self a d)]
  exact congrArg nI (by have := Nat.div_add_mod' a d; omega)
theorem pk_sub_toInt {a b : Nat} (ha : a < 2 ^ 30) (hb : b < 2 ^ 30) : (nI a - nI b).toInt = (a : Int) - b := by
  rw [Int32.toInt_sub, nI_toInt (by omega), nI_toInt (by omega)]
  exact Int.bmod_eq_of_le (by omega) (by omega)
theorem pk_sneg {a b : Nat} (hb : b < 2 ^ 30) (h : a < b) : nI a - nI b < 0 := by
  rw [Int32.lt_iff_toInt_lt, pk_sub_toInt (by omega) hb, show (0 : Int32).toInt = 0 from by decide]
  omega
theorem pk_ix (x : Int32) {n : Nat} (hn : n < 2 ^ 31) : x < 0 ∨ nI n ≤ x ∨ ∃ j : Nat, j < n ∧ x = nI j := by
  by_cases h : x < 0
  · exact Or.inl h
  · obtain ⟨j, hj, rfl⟩ := nI_of h
    by_cases h2 : j < n
    · exact Or.inr (Or.inr ⟨j, h2, rfl⟩)
    · exact Or.inr (Or.inl (nI_le (by omega) hj))
theorem pk_le {x y : Int32} {A B : Prop} (a b : Nat) (f : a ≤ b → A) (g : b < a → B) (hx : x = nI a := by rfl) (hy : y = nI b := by rfl) (ha : a < 2 ^ 31 := by omega) (hb : b < 2 ^ 31 := by omega) : (x ≤ y → A) ∧ (¬ x ≤ y → B) := by
  subst hx hy
  rw [nI_leI ha hb]
  exact ⟨f, fun z => g (by omega)⟩
theorem pk_lt {x y : Int32} {A B : Prop} (a b : Nat) (f : a < b → A) (g : b ≤ a → B) (hx : x = nI a := by rfl) (hy : y = nI b := by rfl) (ha : a < 2 ^ 31 := by omega) (hb : b < 2 ^ 31 := by omega) : (x < y → A) ∧ (¬ x < y → B) := by
  subst hx hy
  rw [nI_ltI ha hb]
  exact ⟨f, fun z => g (by omega)⟩
theorem pk_eq {x y : Int32} {A B : Prop} (a b : Nat) (f : a = b → A) (g : a ≠ b → B) (hx : x = nI a := by rfl) (hy : y = nI b := by rfl) (ha : a < 2 ^ 31 := by omega) (hb : b < 2 ^ 31 := by omega) : (x = y → A) ∧ (¬ x = y → B) := by
  subst hx hy
  rw [nI_eq ha hb]
  exact ⟨f, g⟩
theorem pk_in {x : Int32} (n N : Nat) (h : n < N) (hx : x = nI n := by rfl) (hN : N < 2 ^ 31 := by omega) : vp_in x N := by
  subst hx
  exact vp_in_nI h hN
theorem pk_cl {x : Int32} (n : Nat) (hx : x = nI n := by rfl) (h : n < 2 ^ 31 := by omega) : x.toNatClampNeg = n := by
  subst hx
  exact nI_clamp h
theorem pk_tn {n : Nat} (h : n < 2 ^ 32) : (nI n).toBitVec.toNat = n := Nat.mod_eq_of_lt h
theorem pk_and (x : Int32) {m : Int32} (k : Nat) (hm : m.toBitVec.toNat = 2 ^ k - 1) : x &&& m = nI (x.toBitVec.toNat % 2 ^ k) := by
  apply Int32.toBitVec_inj.mp
  apply BitVec.eq_of_toNat_eq
  rw [Int32.toBitVec_and, BitVec.toNat_and, hm, Nat.and_two_pow_sub_one_eq_mod]
  show _ = (BitVec.ofNat 32 _).toNat
  rw [BitVec.toNat_ofNat]
  exact (Nat.mod_eq_of_lt (Nat.lt_of_le_of_lt (Nat.mod_le _ _) x.toBitVec.isLt)).symm
theorem pk_andN {n : Nat} (h : n < 2 ^ 32) {m : Int32} (k : Nat) (hm : m.toBitVec.toNat = 2 ^ k - 1) : nI n &&& m = nI (n % 2 ^ k) := by
  rw [pk_and _ k hm, pk_tn h]
theorem pk_andE (x : Int32) {m : Int32} (k : Nat) (hm : m.toBitVec.toNat = 2 ^ k - 1) : ∃ j : Nat, j < 2 ^ k ∧ x &&& m = nI j := ⟨_, Nat.mod_lt _ (Nat.two_pow_pos k), pk_and x k hm⟩
theorem pk_andIn (x : Int32) {m : Int32} (k : Nat) (hm : m.toBitVec.toNat = 2 ^ k - 1) (hk : k ≤ 30) : vp_in (x &&& m) (2 ^ k) := by
  obtain ⟨j, hj, e⟩ := pk_andE x k hm
  rw [e]
  exact vp_in_nI hj (Nat.lt_of_le_of_lt (Nat.pow_le_pow_right (by decide) hk) (by decide))
theorem pk_shl (a s : Int32) (k : Nat) (hs : (s.toBitVec.smod 32).toNat = k) : (a <<< s).toBitVec.toNat = a.toBitVec.toNat * 2 ^ k % 2 ^ 32 := by
  show (a.toBitVec <<< (s.toBitVec.smod 32).toNat).toNat = _
  rw [hs, BitVec.toNat_shiftLeft, Nat.shiftLeft_eq]
theorem pk_shlN {n : Nat} (s : Int32) (k : Nat) (hs : (s.toBitVec.smod 32).toNat = k) (h : n * 2 ^ k < 2 ^ 32) : nI n <<< s = nI (n * 2 ^ k) := by
  apply Int32.toBitVec_inj.mp
  apply BitVec.eq_of_toNat_eq
  have hn : n < 2 ^ 32 := Nat.lt_of_le_of_lt (Nat.le_mul_of_pos_right n (Nat.two_pow_pos k)) h
  rw [pk_shl _ _ k hs, pk_tn hn, pk_tn h, Nat.mod_eq_of_lt h]
theorem pk_shr (a s : Int32) (k : Nat) (hs : (s.toBitVec.smod 32).toNat = k) : (a >>> s).toInt = a.toInt >>> k := by
  show (a.toBitVec.sshiftRight (s.toBitVec.smod 32).toNat).toInt = _
  rw [hs, BitVec.toInt_sshiftRight]
  rfl
theorem pk_shrN {n : Nat} (h : n < 2 ^ 31) (s : Int32) (k : Nat) (hs : (s.toBitVec.smod 32).toNat = k) : nI n >>> s = nI (n / 2 ^ k) := by
  apply Int32.toInt_inj.mp
  have h2 : n / 2 ^ k ≤ n := Nat.div_le_self _ _
  rw [pk_shr _ _ k hs, nI_toInt h, nI_toInt (by omega), Int.shiftRight_eq_div_pow]
  rfl
theorem pk_vb (z : Int32) : vp_nar .byte z.toInt8.toInt32 = z.toInt8.toInt32 := by rw [vp_nar_byte]; simp
theorem pk_vs (z : Int32) : vp_nar .short z.toInt16.toInt32 = z.toInt16.toInt32 := by rw [vp_nar_short]; simp
theorem pk_least (P : Nat → Prop) (h : ∃ k, P k) : ∃ k, P k ∧ ∀ j, j < k → ¬ P j := by
  obtain ⟨k, hk⟩ := h
  induction k using Nat.strongRecOn with
  | ind k ih =>
    by_cases e : ∃ j, j < k ∧ P j
    · obtain ⟨j, hj, pj⟩ := e
      exact ih j hj pj
    · exact ⟨k, hk, fun j hj pj => e ⟨j, hj, pj⟩⟩
theorem ek_if {c d A B : Prop} (e : c ↔ d) (f : d → A) (g : ¬ d → B) : (c → A) ∧ (¬ c → B) :=
  ⟨fun z => f (e.mp z), fun z => g (fun y => z (e.mpr y))⟩
theorem ek_v {α : Sort _} {P : α → Prop} {a b : α} (e : a = b) (h : P b) : P a := e ▸ h
end
section
/-! numbers, masks, loops: the ground of all that follows -/
def hj_al : Nat → (Nat → Bool) → Bool
  | 0, _ => true
  | n + 1, f => hj_al n f && f n
def hj_an : Nat → (Nat → Bool) → Bool
  | 0, _ => false
  | n + 1, f => hj_an n f || f n
theorem hj_al_iff {n : Nat} {f : Nat → Bool} : hj_al n f = true ↔ ∀ i, i < n → f i = true := by
  induction n with
  | zero => exact ⟨fun _ i h => absurd h (Nat.not_lt_zero i), fun _ => rfl⟩
  | succ n ih =>
    show (hj_al n f && f n) = true ↔ _
    rw [Bool.and_eq_true, ih]
    constructor
    · intro ⟨h, hn⟩ i hi
      rcases Nat.lt_or_ge i n with h1 | h1
      · exact h i h1
      · have e : i = n := by omega
        rw [e]; exact hn
    · intro h
      exact ⟨fun i hi => h i (by omega), h n (by omega)⟩
theorem hj_an_iff {n : Nat} {f : Nat → Bool} : hj_an n f = true ↔ ∃ i, i < n ∧ f i = true := by
  induction n with
  | zero => exact ⟨fun h => (nomatch (show false = true from h)), fun ⟨i, h, _⟩ => absurd h (Nat.not_lt_zero i)⟩
  | succ n ih =>
    show (hj_an n f || f n) = true ↔ _
    rw [Bool.or_eq_true, ih]
    constructor
    · rintro (⟨i, hi, h⟩ | h)
      · exact ⟨i, by omega, h⟩
      · exact ⟨n, by omega, h⟩
    · rintro ⟨i, hi, h⟩
      rcases Nat.lt_or_ge i n with h1 | h1
      · exact Or.inl ⟨i, h1, h⟩
      · have e : i = n := by omega
        rw [e] at h; exact Or.inr h
theorem hj_alc {n : Nat} {f g : Nat → Bool} (h : ∀ i, i < n → f i = g i) : hj_al n f = hj_al n g := by
  rw [Bool.eq_iff_iff, hj_al_iff, hj_al_iff]
  exact ⟨fun k i hi => by rw [← h i hi]; exact k i hi, fun k i hi => by rw [h i hi]; exact k i hi⟩
theorem hj_anc {n : Nat} {f g : Nat → Bool} (h : ∀ i, i < n → f i = g i) : hj_an n f = hj_an n g := by
  rw [Bool.eq_iff_iff, hj_an_iff, hj_an_iff]
  exact ⟨fun ⟨i, hi, k⟩ => ⟨i, hi, by rw [← h i hi]; exact k⟩, fun ⟨i, hi, k⟩ => ⟨i, hi, by rw [h i hi]; exact k⟩⟩
theorem hj_alF {n k : Nat} {f : Nat → Bool} (hk : k < n) (h : f k = false) : hj_al n f = false := by
  rw [Bool.eq_false_iff]
  intro e
  rw [hj_al_iff.mp e k hk] at h
  exact absurd h (by decide)

/-! booleans as ints -/
def hj_b : Bool → Int32
  | true => 1
  | false => 0
theorem hj_bn (b : Bool) : narrow .boolean (.int (hj_b b)) = .int (hj_b b) := by cases b <;> rfl
theorem hj_bz {b : Bool} {A B : Prop} (f : b = false → A) (g : b = true → B) : (hj_b b = 0 → A) ∧ (¬ hj_b b = 0 → B) := by
  cases b
  · exact ⟨fun _ => f rfl, fun h => absurd rfl h⟩
  · exact ⟨fun h => absurd h (by decide), fun _ => g rfl⟩
theorem hj_if {c A B : Prop} {b : Bool} (e : c ↔ b = true) (f : b = true → A) (g : b = false → B) : (c → A) ∧ (¬ c → B) := by
  cases b
  · exact ⟨fun h => absurd (e.mp h) (by decide), fun _ => g rfl⟩
  · exact ⟨fun _ => f rfl, fun h => absurd (e.mpr rfl) h⟩
theorem hj_ifn {c A B : Prop} {b : Bool} (e : c ↔ b = false) (f : b = false → A) (g : b = true → B) : (c → A) ∧ (¬ c → B) := by
  cases b
  · exact ⟨fun _ => f rfl, fun h => absurd (e.mpr rfl) h⟩
  · exact ⟨fun h => absurd (e.mp h) (by decide), fun _ => g rfl⟩

/-! counted loops -/
theorem hj_lp {P : Nat → Nat → Prop} (N : Nat) (hx : ∀ n, P (n + 1) N) (hs : ∀ n k, k < N → P n (k + 1) → P (n + 1) k) : ∀ d k n, k + d = N → d < n → P n k := by
  intro d
  induction d with
  | zero =>
    intro k n hk hn
    obtain ⟨m, rfl⟩ : ∃ m, n = m + 1 := ⟨n - 1, by omega⟩
    have e : k = N := by omega
    rw [e]; exact hx m
  | succ d ih =>
    intro k n hk hn
    obtain ⟨m, rfl⟩ : ∃ m, n = m + 1 := ⟨n - 1, by omega⟩
    exact hs m k (by omega) (ih (k + 1) m (by omega) (by omega))
theorem hj_lpe {P : Nat → Nat → Prop} (N : Nat) (hx : ∀ n, P (n + 1) N) (hs : ∀ n k, k < N → P n (k + 1) → P (n + 1) k) (k : Nat) (hk : k ≤ N) : ∃ n, P n k :=
  ⟨N - k + 1, hj_lp N hx hs (N - k) k _ (by omega) (by omega)⟩

/-! indices -/
theorem hj_i4 (x k : Nat) : nI x * 4 + nI k = nI (x * 4 + k) := by
  rw [show (4 : Int32) = nI 4 from rfl, pk_mul, nI_add]
theorem hj_i4c {x k : Nat} (hx : x < 4) (hk : k < 4) : (nI x * 4 + nI k).toNatClampNeg = x * 4 + k := by
  rw [hj_i4, nI_clamp (by omega)]
theorem hj_i4v {x k : Nat} (hx : x < 4) (hk : k < 4) : vp_in (nI x * 4 + nI k) 16 := by
  rw [hj_i4]; exact vp_in_nI (by omega) (by omega)
theorem hj_v4 {k : Nat} (hk : k < 4) : vp_in (nI k) 4 := vp_in_nI hk (by omega)
theorem hj_c4 {k : Nat} (hk : k < 4) : (nI k).toNatClampNeg = k := nI_clamp (by omega)
theorem hj_i9 (c k : Nat) : nI c * 9 + nI k = nI (c * 9 + k) := by
  rw [show (9 : Int32) = nI 9 from rfl, pk_mul, nI_add]
theorem hj_s9 (i x : Nat) : (nI i * 4 + nI x) * 9 = nI ((i * 4 + x) * 9) := by
  rw [hj_i4, show (9 : Int32) = nI 9 from rfl, pk_mul]
theorem hj_2j (j : Nat) : 2 * nI j = nI (2 * j) := by
  rw [show (2 : Int32) = nI 2 from rfl, pk_mul]
theorem hj_p1 (a : Nat) : nI a + 1 = nI (a + 1) := nI_1 a
theorem hj_p2 (a : Nat) : nI a + 2 = nI (a + 2) := by
  rw [show (2 : Int32) = nI 2 from rfl, nI_add]

/-! masks of four bits -/
def hj_m4 (a b c d : Bool) : Int32 := nI (cond a 1 0 + cond b 2 0 + cond c 4 0 + cond d 8 0)
def hj_mk (p : Nat → Bool) : Int32 := hj_m4 (p 0) (p 1) (p 2) (p 3)
theorem hj_mkx {p q : Nat → Bool} (h : ∀ i, i < 4 → p i = q i) : hj_mk p = hj_mk q := by
  unfold hj_mk
  rw [h 0 (by decide), h 1 (by decide), h 2 (by decide), h 3 (by decide)]
theorem hj_or4 : ∀ a b c d e f g h : Bool, hj_m4 a b c d ||| hj_m4 e f g h = hj_m4 (a || e) (b || f) (c || g) (d || h) := by decide +kernel
theorem hj_an4 : ∀ a b c d e f g h : Bool, hj_m4 a b c d &&& (hj_m4 e f g h ^^^ (-1)) = hj_m4 (a && !e) (b && !f) (c && !g) (d && !h) := by decide +kernel
theorem hj_or (p q : Nat → Bool) : hj_mk p ||| hj_mk q = hj_mk (fun i => p i || q i) := hj_or4 _ _ _ _ _ _ _ _
theorem hj_andn (p q : Nat → Bool) : hj_mk p &&& (hj_mk q ^^^ (-1)) = hj_mk (fun i => p i && !q i) := hj_an4 _ _ _ _ _ _ _ _
theorem hj_bt0 : ∀ a b c d : Bool, ((hj_m4 a b c d >>> (nI 0 &&& 31)) &&& 1) = 0 ↔ a = false := by decide +kernel
theorem hj_bt1 : ∀ a b c d : Bool, ((hj_m4 a b c d >>> (nI 1 &&& 31)) &&& 1) = 0 ↔ b = false := by decide +kernel
theorem hj_bt2 : ∀ a b c d : Bool, ((hj_m4 a b c d >>> (nI 2 &&& 31)) &&& 1) = 0 ↔ c = false := by decide +kernel
theorem hj_bt3 : ∀ a b c d : Bool, ((hj_m4 a b c d >>> (nI 3 &&& 31)) &&& 1) = 0 ↔ d = false := by decide +kernel
theorem hj_bit (p : Nat → Bool) {i : Nat} (hi : i < 4) : ((hj_mk p >>> (nI i &&& 31)) &&& 1) = 0 ↔ p i = false := by
  match i, hi with
  | 0, _ => exact hj_bt0 _ _ _ _
  | 1, _ => exact hj_bt1 _ _ _ _
  | 2, _ => exact hj_bt2 _ _ _ _
  | 3, _ => exact hj_bt3 _ _ _ _
theorem hj_one {i : Nat} (hi : i < 4) : (1 : Int32) <<< (nI i &&& 31) = hj_mk (fun j => j == i) := by
  match i, hi with
  | 0, _ => decide +kernel
  | 1, _ => decide +kernel
  | 2, _ => decide +kernel
  | 3, _ => decide +kernel
theorem hj_by4 : ∀ a b c d : Bool, (hj_m4 a b c d).toInt8.toInt32 = hj_m4 a b c d := by decide +kernel
theorem hj_by (p : Nat → Bool) : (hj_mk p).toInt8.toInt32 = hj_mk p := hj_by4 _ _ _ _
theorem hj_vby (p : Nat → Bool) : vp_nar .byte (hj_mk p) = hj_mk p := by rw [vp_nar_byte, hj_by]
theorem hj_z4 : ∀ a b c d : Bool, hj_m4 a b c d = 0 ↔ (a = false ∧ b = false ∧ c = false ∧ d = false) := by decide +kernel
theorem hj_mz (p : Nat → Bool) : hj_mk p = 0 ↔ ∀ i, i < 4 → p i = false := by
  unfold hj_mk
  rw [hj_z4]
  constructor
  · rintro ⟨h0, h1, h2, h3⟩ i hi
    match i, hi with
    | 0, _ => exact h0
    | 1, _ => exact h1
    | 2, _ => exact h2
    | 3, _ => exact h3
  · intro h
    exact ⟨h 0 (by decide), h 1 (by decide), h 2 (by decide), h 3 (by decide)⟩
theorem hj_mk0 : hj_mk (fun _ => false) = 0 := by decide +kernel
theorem hj_bv {v : Nat} (h : v < 8) : (nI v).toInt8.toInt32 = nI v := by
  match v, h with
  | 0, _ => decide +kernel
  | 1, _ => decide +kernel
  | 2, _ => decide +kernel
  | 3, _ => decide +kernel
  | 4, _ => decide +kernel
  | 5, _ => decide +kernel
  | 6, _ => decide +kernel
  | 7, _ => decide +kernel
theorem hj_vbv {v : Nat} (h : v < 8) : vp_nar .byte (nI v) = nI v := by rw [vp_nar_byte, hj_bv h]

/-! the nine bits of a read set -/
def hj_n9 (a b c d e f g h i : Bool) : Int32 := nI (cond a 1 0 + cond b 2 0 + cond c 4 0 + cond d 8 0 + cond e 16 0 + cond f 32 0 + cond g 64 0 + cond h 128 0 + cond i 256 0)
def hj_r9 (p : Nat → Bool) : Int32 := hj_n9 (p 0) (p 1) (p 2) (p 3) (p 4) (p 5) (p 6) (p 7) (p 8)
theorem hj_r9x {p q : Nat → Bool} (h : ∀ i, i < 9 → p i = q i) : hj_r9 p = hj_r9 q := by
  unfold hj_r9
  rw [h 0 (by decide), h 1 (by decide), h 2 (by decide), h 3 (by decide), h 4 (by decide), h 5 (by decide), h 6 (by decide), h 7 (by decide), h 8 (by decide)]
theorem hj_90 : ∀ a b c d e f g h i : Bool, hj_n9 a b c d e f g h i ||| ((1 : Int32) <<< (nI 0 &&& 31)) = hj_n9 true b c d e f g h i := by decide +kernel
theorem hj_91 : ∀ a b c d e f g h i : Bool, hj_n9 a b c d e f g h i ||| ((1 : Int32) <<< (nI 1 &&& 31)) = hj_n9 a true c d e f g h i := by decide +kernel
theorem hj_92 : ∀ a b c d e f g h i : Bool, hj_n9 a b c d e f g h i ||| ((1 : Int32) <<< (nI 2 &&& 31)) = hj_n9 a b true d e f g h i := by decide +kernel
theorem hj_93 : ∀ a b c d e f g h i : Bool, hj_n9 a b c d e f g h i ||| ((1 : Int32) <<< (nI 3 &&& 31)) = hj_n9 a b c true e f g h i := by decide +kernel
theorem hj_94 : ∀ a b c d e f g h i : Bool, hj_n9 a b c d e f g h i ||| ((1 : Int32) <<< (nI 4 &&& 31)) = hj_n9 a b c d true f g h i := by decide +kernel
theorem hj_95 : ∀ a b c d e f g h i : Bool, hj_n9 a b c d e f g h i ||| ((1 : Int32) <<< (nI 5 &&& 31)) = hj_n9 a b c d e true g h i := by decide +kernel
theorem hj_96 : ∀ a b c d e f g h i : Bool, hj_n9 a b c d e f g h i ||| ((1 : Int32) <<< (nI 6 &&& 31)) = hj_n9 a b c d e f true h i := by decide +kernel
theorem hj_97 : ∀ a b c d e f g h i : Bool, hj_n9 a b c d e f g h i ||| ((1 : Int32) <<< (nI 7 &&& 31)) = hj_n9 a b c d e f g true i := by decide +kernel
theorem hj_98 : ∀ a b c d e f g h i : Bool, hj_n9 a b c d e f g h i ||| ((1 : Int32) <<< (nI 8 &&& 31)) = hj_n9 a b c d e f g h true := by decide +kernel
theorem hj_r9o {p q : Nat → Bool} {k : Nat} (hk : k < 9) (hq : q k = true) (h : ∀ j, j < 9 → j ≠ k → q j = p j) : hj_r9 p ||| ((1 : Int32) <<< (nI k &&& 31)) = hj_r9 q := by
  unfold hj_r9
  match k, hk with
  | 0, _ => rw [hq, h 1 (by decide) (by decide), h 2 (by decide) (by decide), h 3 (by decide) (by decide), h 4 (by decide) (by decide), h 5 (by decide) (by decide), h 6 (by decide) (by decide), h 7 (by decide) (by decide), h 8 (by decide) (by decide)]; exact hj_90 _ _ _ _ _ _ _ _ _
  | 1, _ => rw [hq, h 0 (by decide) (by decide), h 2 (by decide) (by decide), h 3 (by decide) (by decide), h 4 (by decide) (by decide), h 5 (by decide) (by decide), h 6 (by decide) (by decide), h 7 (by decide) (by decide), h 8 (by decide) (by decide)]; exact hj_91 _ _ _ _ _ _ _ _ _
  | 2, _ => rw [hq, h 0 (by decide) (by decide), h 1 (by decide) (by decide), h 3 (by decide) (by decide), h 4 (by decide) (by decide), h 5 (by decide) (by decide), h 6 (by decide) (by decide), h 7 (by decide) (by decide), h 8 (by decide) (by decide)]; exact hj_92 _ _ _ _ _ _ _ _ _
  | 3, _ => rw [hq, h 0 (by decide) (by decide), h 1 (by decide) (by decide), h 2 (by decide) (by decide), h 4 (by decide) (by decide), h 5 (by decide) (by decide), h 6 (by decide) (by decide), h 7 (by decide) (by decide), h 8 (by decide) (by decide)]; exact hj_93 _ _ _ _ _ _ _ _ _
  | 4, _ => rw [hq, h 0 (by decide) (by decide), h 1 (by decide) (by decide), h 2 (by decide) (by decide), h 3 (by decide) (by decide), h 5 (by decide) (by decide), h 6 (by decide) (by decide), h 7 (by decide) (by decide), h 8 (by decide) (by decide)]; exact hj_94 _ _ _ _ _ _ _ _ _
  | 5, _ => rw [hq, h 0 (by decide) (by decide), h 1 (by decide) (by decide), h 2 (by decide) (by decide), h 3 (by decide) (by decide), h 4 (by decide) (by decide), h 6 (by decide) (by decide), h 7 (by decide) (by decide), h 8 (by decide) (by decide)]; exact hj_95 _ _ _ _ _ _ _ _ _
  | 6, _ => rw [hq, h 0 (by decide) (by decide), h 1 (by decide) (by decide), h 2 (by decide) (by decide), h 3 (by decide) (by decide), h 4 (by decide) (by decide), h 5 (by decide) (by decide), h 7 (by decide) (by decide), h 8 (by decide) (by decide)]; exact hj_96 _ _ _ _ _ _ _ _ _
  | 7, _ => rw [hq, h 0 (by decide) (by decide), h 1 (by decide) (by decide), h 2 (by decide) (by decide), h 3 (by decide) (by decide), h 4 (by decide) (by decide), h 5 (by decide) (by decide), h 6 (by decide) (by decide), h 8 (by decide) (by decide)]; exact hj_97 _ _ _ _ _ _ _ _ _
  | 8, _ => rw [hq, h 0 (by decide) (by decide), h 1 (by decide) (by decide), h 2 (by decide) (by decide), h 3 (by decide) (by decide), h 4 (by decide) (by decide), h 5 (by decide) (by decide), h 6 (by decide) (by decide), h 7 (by decide) (by decide)]; exact hj_98 _ _ _ _ _ _ _ _ _
theorem hj_r9s9 : ∀ a b c d e f g h i : Bool, (hj_n9 a b c d e f g h i).toInt16.toInt32 = hj_n9 a b c d e f g h i := by decide +kernel
theorem hj_r9s (p : Nat → Bool) : vp_nar .short (hj_r9 p).toInt16.toInt32 = hj_r9 p := by
  rw [vp_nar_short]
  unfold hj_r9
  rw [hj_r9s9, hj_r9s9]
theorem hj_9z : ∀ a b c d e f g h i : Bool, (hj_n9 a b c d e f g h i &&& 1) = 0 ↔ a = false := by decide +kernel
theorem hj_r9z (p : Nat → Bool) : (hj_r9 p &&& 1) = 0 ↔ p 0 = false := hj_9z _ _ _ _ _ _ _ _ _
def hj_v2 (a b : Bool) : Nat := cond a 1 0 + cond b 2 0
theorem hj_9v0 : ∀ a b c d e f g h i : Bool, (hj_n9 a b c d e f g h i >>> ((1 + 2 * nI 0) &&& 31)) &&& 3 = nI (hj_v2 b c) := by decide +kernel
theorem hj_9v1 : ∀ a b c d e f g h i : Bool, (hj_n9 a b c d e f g h i >>> ((1 + 2 * nI 1) &&& 31)) &&& 3 = nI (hj_v2 d e) := by decide +kernel
theorem hj_9v2 : ∀ a b c d e f g h i : Bool, (hj_n9 a b c d e f g h i >>> ((1 + 2 * nI 2) &&& 31)) &&& 3 = nI (hj_v2 f g) := by decide +kernel
theorem hj_9v3 : ∀ a b c d e f g h i : Bool, (hj_n9 a b c d e f g h i >>> ((1 + 2 * nI 3) &&& 31)) &&& 3 = nI (hj_v2 h i) := by decide +kernel
theorem hj_r9v (p : Nat → Bool) {j : Nat} (hj : j < 4) : (hj_r9 p >>> ((1 + 2 * nI j) &&& 31)) &&& 3 = nI (hj_v2 (p (2 * j + 1)) (p (2 * j + 2))) := by
  match j, hj with
  | 0, _ => exact hj_9v0 _ _ _ _ _ _ _ _ _
  | 1, _ => exact hj_9v1 _ _ _ _ _ _ _ _ _
  | 2, _ => exact hj_9v2 _ _ _ _ _ _ _ _ _
  | 3, _ => exact hj_9v3 _ _ _ _ _ _ _ _ _
end
section
/-! the plain law: what the reference asks of a list is that it keeps the component's edges -/
def hj_sa (sw : Nat → Nat → Nat → Bool) (i x s : Nat) : Bool := sw i x (2 * s + 1) || sw i x (2 * s + 2)
def hj_ve (K : Nat) (cm : Nat → Bool) (wt : Nat → Nat → Bool) (rk : Nat → Nat → Nat) (i j : Nat) : Bool :=
  hj_an K fun x => (cm i && cm j) && (wt i x && wt j x) && decide (rk x i < rk x j)
def hj_se (K : Nat) (cm : Nat → Bool) (wt : Nat → Nat → Bool) (sw : Nat → Nat → Nat → Bool) (s i : Nat) : Bool :=
  hj_an K fun x => (cm s && cm i) && (wt s x && hj_sa sw i x s)
def hj_oe (K : Nat) (cm : Nat → Bool) (wt : Nat → Nat → Bool) (sw : Nat → Nat → Nat → Bool) (rk : Nat → Nat → Nat) (i j : Nat) : Bool :=
  hj_an K fun x => (cm i && cm j) && (wt j x && !(j == i)) && (sw i x 0 || hj_an 4 fun s => (cm s && wt s x) && hj_sa sw i x s && decide (rk x s < rk x j))
theorem hj_ve_i {K : Nat} {cm : Nat → Bool} {wt : Nat → Nat → Bool} {rk : Nat → Nat → Nat} {i j : Nat} : hj_ve K cm wt rk i j = true ↔ ∃ x, x < K ∧ cm i = true ∧ cm j = true ∧ wt i x = true ∧ wt j x = true ∧ rk x i < rk x j := by
  simp only [hj_ve, hj_an_iff, Bool.and_eq_true, decide_eq_true_eq, and_assoc]
theorem hj_se_i {K : Nat} {cm : Nat → Bool} {wt : Nat → Nat → Bool} {sw : Nat → Nat → Nat → Bool} {s i : Nat} : hj_se K cm wt sw s i = true ↔ ∃ x, x < K ∧ cm s = true ∧ cm i = true ∧ wt s x = true ∧ hj_sa sw i x s = true := by
  simp only [hj_se, hj_an_iff, Bool.and_eq_true, and_assoc]
theorem hj_oe_i {K : Nat} {cm : Nat → Bool} {wt : Nat → Nat → Bool} {sw : Nat → Nat → Nat → Bool} {rk : Nat → Nat → Nat} {i j : Nat} : hj_oe K cm wt sw rk i j = true ↔ ∃ x, x < K ∧ cm i = true ∧ cm j = true ∧ wt j x = true ∧ j ≠ i ∧ (sw i x 0 = true ∨ ∃ s, s < 4 ∧ cm s = true ∧ wt s x = true ∧ hj_sa sw i x s = true ∧ rk x s < rk x j) := by
  simp only [hj_oe, hj_an_iff, Bool.and_eq_true, Bool.or_eq_true, Bool.not_eq_true', beq_eq_false_iff_ne, decide_eq_true_eq, and_assoc]
theorem hj_sa_i {sw : Nat → Nat → Nat → Bool} {i x s : Nat} : hj_sa sw i x s = true ↔ ∃ k, (k = 2 * s + 1 ∨ k = 2 * s + 2) ∧ sw i x k = true := by
  unfold hj_sa
  rw [Bool.or_eq_true]
  constructor
  · rintro (h | h)
    · exact ⟨_, Or.inl rfl, h⟩
    · exact ⟨_, Or.inr rfl, h⟩
  · rintro ⟨k, rfl | rfl, h⟩
    · exact Or.inl h
    · exact Or.inr h
/-- a list of n places that holds each committed one once -/
def hj_pm (cm : Nat → Bool) (n : Nat) (d : Nat → Nat) : Prop :=
  (∀ k, k < n → cm (d k) = true) ∧ (∀ a b, a < n → b < n → d a = d b → a = b) ∧ (∀ i, cm i = true → ∃ k, k < n ∧ d k = i)
/-- the list keeps the edges -/
def hj_lin (E : Nat → Nat → Bool) (n : Nat) (d : Nat → Nat) : Prop := ∀ a b, a ≤ b → b < n → E (d b) (d a) = false
def hj_KR (K n : Nat) (wt : Nat → Nat → Bool) (rk : Nat → Nat → Nat) (d : Nat → Nat) : Bool :=
  hj_al K fun x => hj_al n fun b => hj_al b fun a => !(wt (d b) x && wt (d a) x) || decide (rk x (d a) < rk x (d b))
def hj_sy (sw : Nat → Nat → Nat → Bool) (i j : Nat) : Bool := hj_an 4 fun x => hj_sa sw i x j
def hj_KS (n : Nat) (sw : Nat → Nat → Nat → Bool) (d : Nat → Nat) : Bool := hj_al n fun b => hj_al b fun a => !hj_sy sw (d a) (d b)
def hj_rt : Option Nat → Nat → Bool
  | none, k => k == 0
  | some j, k => k == 2 * j + 1 || k == 2 * j + 2
def hj_ro (sw : Nat → Nat → Nat → Bool) (i x : Nat) (o : Option Nat) : Bool := hj_al 9 fun k => !sw i x k || hj_rt o k
def hj_lw (wt : Nat → Nat → Bool) (d : Nat → Nat) (i x : Nat) : Nat → Option Nat
  | 0 => none
  | a + 1 => if (wt (d a) x && !(d a == i)) = true then some (d a) else hj_lw wt d i x a
def hj_ra (K : Nat) (wt : Nat → Nat → Bool) (sw : Nat → Nat → Nat → Bool) (d : Nat → Nat) (i g : Nat) : Bool := hj_al K fun x => hj_ro sw i x (hj_lw wt d i x g)
def hj_sh (K : Nat) (wt : Nat → Nat → Bool) (i j : Nat) : Bool := hj_an K fun x => wt i x && wt j x
def hj_st (K : Nat) (wt : Nat → Nat → Bool) (sw : Nat → Nat → Nat → Bool) (d : Nat → Nat) (b g : Nat) : Bool :=
  hj_ra K wt sw d (d b) g && hj_al b fun a => decide (a < g) || !hj_sh K wt (d a) (d b)
def hj_CS (K n : Nat) (wt : Nat → Nat → Bool) (sw : Nat → Nat → Nat → Bool) (d : Nat → Nat) : Bool := hj_al n fun b => hj_an (b + 1) fun g => hj_st K wt sw d b g
def hj_KD (K n : Nat) (wt : Nat → Nat → Bool) (sw : Nat → Nat → Nat → Bool) (d : Nat → Nat) : Bool := hj_al n fun b => hj_ra K wt sw d (d b) b
/-- what the relation knows of a history -/
def hj_hy (K : Nat) (cm : Nat → Bool) (sw : Nat → Nat → Nat → Bool) (rk : Nat → Nat → Nat) : Prop :=
  K ≤ 4 ∧ (∀ i, cm i = true → i < 4) ∧ (∀ x i j, x < K → rk x i = rk x j → i = j) ∧
  (∀ i x k, cm i = true → x < 4 → k < 9 → sw i x k = true → x < K ∧ (k = 0 ∨ ∃ j, j ≠ i ∧ (k = 2 * j + 1 ∨ k = 2 * j + 2)))
def hj_cl (cm : Nat → Bool) (wt : Nat → Nat → Bool) (sw : Nat → Nat → Nat → Bool) : Prop :=
  ∀ i x j, cm i = true → x < 4 → j < 4 → hj_sa sw i x j = true → cm j = true ∧ wt j x = true

theorem hj_lw_n {wt : Nat → Nat → Bool} {d : Nat → Nat} {i x : Nat} : ∀ {g : Nat}, hj_lw wt d i x g = none → ∀ a, a < g → ¬ (wt (d a) x = true ∧ d a ≠ i) := by
  intro g
  induction g with
  | zero => intro _ a h; exact absurd h (Nat.not_lt_zero a)
  | succ g ih =>
    intro h a ha hc
    unfold hj_lw at h
    by_cases e : (wt (d g) x && !(d g == i)) = true
    · rw [if_pos e] at h; exact absurd h (by simp)
    · rw [if_neg e] at h
      rcases Nat.lt_or_ge a g with h1 | h1
      · exact ih h a h1 hc
      · have e2 : a = g := by omega
        rw [e2] at hc
        apply e
        rw [hc.1, Bool.true_and, Bool.not_eq_true', beq_eq_false_iff_ne]
        exact hc.2
theorem hj_lw_s {wt : Nat → Nat → Bool} {d : Nat → Nat} {i x j : Nat} : ∀ {g : Nat}, hj_lw wt d i x g = some j → ∃ a, a < g ∧ d a = j ∧ wt j x = true ∧ j ≠ i ∧ ∀ a', a < a' → a' < g → ¬ (wt (d a') x = true ∧ d a' ≠ i) := by
  intro g
  induction g with
  | zero => intro h; exact absurd h (by simp [hj_lw])
  | succ g ih =>
    intro h
    unfold hj_lw at h
    by_cases e : (wt (d g) x && !(d g == i)) = true
    · rw [if_pos e] at h
      have hj : d g = j := Option.some.inj h
      rw [Bool.and_eq_true, Bool.not_eq_true', beq_eq_false_iff_ne, hj] at e
      exact ⟨g, by omega, hj, e.1, e.2, fun a' h1 h2 => by omega⟩
    · rw [if_neg e] at h
      obtain ⟨a, ha, h1, h2, h3, h4⟩ := ih h
      refine ⟨a, by omega, h1, h2, h3, fun a' h5 h6 hc => ?_⟩
      rcases Nat.lt_or_ge a' g with h7 | h7
      · exact h4 a' h5 h7 hc
      · have e2 : a' = g := by omega
        rw [e2] at hc
        apply e
        rw [hc.1, Bool.true_and, Bool.not_eq_true', beq_eq_false_iff_ne]
        exact hc.2
theorem hj_bf {b : Bool} (h : ¬ b = true) : b = false := by cases b <;> simp_all
theorem hj_nt {b : Bool} (h : b = false) : ¬ b = true := by rw [h]; decide
theorem hj_KR_i {K n : Nat} {wt : Nat → Nat → Bool} {rk : Nat → Nat → Nat} {d : Nat → Nat} : hj_KR K n wt rk d = true ↔ ∀ x, x < K → ∀ b, b < n → ∀ a, a < b → wt (d b) x = true → wt (d a) x = true → rk x (d a) < rk x (d b) := by
  simp only [hj_KR, hj_al_iff, Bool.or_eq_true, Bool.not_eq_true', decide_eq_true_eq]
  constructor
  · intro h x hx b hb a ha h1 h2
    rcases h x hx b hb a ha with h3 | h3
    · rw [h1, h2] at h3; exact absurd h3 (by decide)
    · exact h3
  · intro h x hx b hb a ha
    cases h1 : wt (d b) x
    · exact Or.inl rfl
    · cases h2 : wt (d a) x
      · exact Or.inl rfl
      · exact Or.inr (h x hx b hb a ha h1 h2)
section
variable {K n : Nat} {cm : Nat → Bool} {wt : Nat → Nat → Bool} {sw : Nat → Nat → Nat → Bool} {rk : Nat → Nat → Nat} {d : Nat → Nat}
theorem hj_KR_lin (H : hj_hy K cm sw rk) (hp : hj_pm cm n d) : hj_KR K n wt rk d = true ↔ hj_lin (hj_ve K cm wt rk) n d := by
  rw [hj_KR_i]
  constructor
  · intro h a b hab hb
    apply hj_bf
    intro hv
    obtain ⟨x, hx, h1, h2, h3, h4, h5⟩ := hj_ve_i.mp hv
    rcases Nat.lt_or_ge a b with h6 | h6
    · have h7 := h x hx b hb a h6 h3 h4
      omega
    · have e : a = b := by omega
      rw [e] at h5; omega
  · intro h x hx b hb a ha h1 h2
    have h3 := hj_nt (h a b (by omega) hb)
    rw [hj_ve_i] at h3
    have h4 : ¬ rk x (d b) < rk x (d a) := fun h4 => h3 ⟨x, hx, hp.1 b hb, hp.1 a (by omega), h1, h2, h4⟩
    have h5 : rk x (d a) ≠ rk x (d b) := fun e => by
      have := hp.2.1 a b (by omega) hb (H.2.2.1 x _ _ hx e)
      omega
    omega
theorem hj_KS_lin (H : hj_hy K cm sw rk) (hp : hj_pm cm n d) (hc : hj_cl cm wt sw) : hj_KS n sw d = true ↔ hj_lin (hj_se K cm wt sw) n d := by
  simp only [hj_KS, hj_al_iff, Bool.not_eq_true']
  constructor
  · intro h a b hab hb
    apply hj_bf
    intro hv
    obtain ⟨x, hx, h1, h2, h3, h4⟩ := hj_se_i.mp hv
    rcases Nat.lt_or_ge a b with h6 | h6
    · have h7 := hj_nt (h b hb a h6)
      rw [hj_sy, hj_an_iff] at h7
      exact h7 ⟨x, by have := H.1; omega, h4⟩
    · have e : a = b := by omega
      rw [e] at h4
      obtain ⟨k, hk, h5⟩ := hj_sa_i.mp h4
      have h8 : d b < 4 := H.2.1 _ (hp.1 b hb)
      obtain ⟨_, h9⟩ := H.2.2.2 (d b) x k (hp.1 b hb) (by have := H.1; omega) (by omega) h5
      rcases h9 with h9 | ⟨j, h9, h10⟩
      · omega
      · omega
  · intro h b hb a ha
    apply hj_bf
    intro hv
    rw [hj_sy, hj_an_iff] at hv
    obtain ⟨x, hx, h1⟩ := hv
    apply hj_nt (h a b (by omega) hb)
    have ha' := hp.1 a (by omega)
    obtain ⟨h2, h3⟩ := hc (d a) x (d b) ha' hx (H.2.1 _ (hp.1 b hb)) h1
    have h8 : d b < 4 := H.2.1 _ (hp.1 b hb)
    obtain ⟨k, hk, h5⟩ := hj_sa_i.mp h1
    obtain ⟨h9, _⟩ := H.2.2.2 (d a) x k ha' hx (by omega) h5
    exact hj_se_i.mpr ⟨x, h9, h2, ha', h3, h1⟩
theorem hj_ra_i (H : hj_hy K cm sw rk) (hp : hj_pm cm n d) (hc : hj_cl cm wt sw) (hk : hj_KR K n wt rk d = true) {b g : Nat} (hb : b < n) (hg : g ≤ n) : hj_ra K wt sw d (d b) g = true ↔ (∀ a, a < n → hj_se K cm wt sw (d a) (d b) = true → a < g) ∧ (∀ a, a < n → hj_oe K cm wt sw rk (d b) (d a) = true → g ≤ a) := by
  rw [hj_KR_i] at hk
  have hb' := hp.1 b hb
  simp only [hj_ra, hj_ro, hj_al_iff, Bool.or_eq_true, Bool.not_eq_true']
  constructor
  · intro h
    have h' : ∀ x, x < K → ∀ k, k < 9 → sw (d b) x k = true → hj_rt (hj_lw wt d (d b) x g) k = true := by
      intro x hx k h9 hs
      rcases h x hx k h9 with h1 | h1
      · rw [hs] at h1; exact absurd h1 (by decide)
      · exact h1
    have hsa : ∀ x, x < K → ∀ s, s < 4 → hj_sa sw (d b) x s = true → hj_lw wt d (d b) x g = some s := by
      intro x hx s hs4 hs
      obtain ⟨k, hk1, hk2⟩ := hj_sa_i.mp hs
      have h1 := h' x hx k (by omega) hk2
      cases e : hj_lw wt d (d b) x g with
      | none =>
        rw [e] at h1
        have h2 : k = 0 := by simpa [hj_rt] using h1
        omega
      | some j =>
        rw [e] at h1
        have h2 : k = 2 * j + 1 ∨ k = 2 * j + 2 := by simpa [hj_rt] using h1
        have h3 : j = s := by omega
        rw [h3]
    constructor
    · intro a ha hse
      obtain ⟨x, hx, h1, h2, h3, h4⟩ := hj_se_i.mp hse
      obtain ⟨a0, h5, h6, _⟩ := hj_lw_s (hsa x hx (d a) (H.2.1 _ h1) h4)
      have h7 := hp.2.1 a0 a (by omega) ha h6
      omega
    · intro a ha hoe
      obtain ⟨x, hx, h1, h2, h3, h4, h5⟩ := hj_oe_i.mp hoe
      rcases Nat.lt_or_ge a g with h6 | h6
      · exfalso
        rcases h5 with h5 | ⟨s, h7, h8, h9, h10, h11⟩
        · have h12 := h' x hx 0 (by decide) h5
          cases e : hj_lw wt d (d b) x g with
          | none => exact hj_lw_n e a h6 ⟨h3, h4⟩
          | some j =>
            rw [e] at h12
            simp [hj_rt] at h12
        · obtain ⟨a0, h12, h13, h14, h15, h16⟩ := hj_lw_s (hsa x hx s h7 h10)
          rcases Nat.lt_trichotomy a a0 with h17 | h17 | h17
          · have h18 := hk x hx a0 (by omega) a h17 (by rw [h13]; exact h14) h3
            rw [h13] at h18
            omega
          · rw [h17, h13] at h11; omega
          · exact h16 a h17 h6 ⟨h3, h4⟩
      · exact h6
  · rintro ⟨hs, ho⟩ x hx k h9
    cases hsk : sw (d b) x k
    · exact Or.inl rfl
    · refine Or.inr ?_
      obtain ⟨_, h1⟩ := H.2.2.2 (d b) x k hb' (by have := H.1; omega) h9 hsk
      rcases h1 with h1 | ⟨j, h1, h2⟩
      · cases e : hj_lw wt d (d b) x g with
        | none => simp [hj_rt, h1]
        | some j =>
          exfalso
          obtain ⟨a0, h12, h13, h14, h15, h16⟩ := hj_lw_s e
          have h17 := ho a0 (by omega) (hj_oe_i.mpr ⟨x, hx, hb', hp.1 a0 (by omega), by rw [h13]; exact h14, by rw [h13]; exact h15, Or.inl (by rw [← h1]; exact hsk)⟩)
          omega
      · have h3 : hj_sa sw (d b) x j = true := hj_sa_i.mpr ⟨k, h2, hsk⟩
        have hj4 : j < 4 := by omega
        obtain ⟨h4, h5⟩ := hc (d b) x j hb' (by have := H.1; omega) hj4 h3
        obtain ⟨a1, h6, h7⟩ := hp.2.2 j h4
        have h8 := hs a1 h6 (hj_se_i.mpr ⟨x, hx, by rw [h7]; exact h4, hb', by rw [h7]; exact h5, by rw [h7]; exact h3⟩)
        cases e : hj_lw wt d (d b) x g with
        | none => exact absurd ⟨by rw [h7]; exact h5, by rw [h7]; exact h1⟩ (hj_lw_n e a1 h8)
        | some j' =>
          obtain ⟨a0, h12, h13, h14, h15, h16⟩ := hj_lw_s e
          have h17 : a1 = a0 := by
            rcases Nat.lt_trichotomy a1 a0 with h17 | h17 | h17
            · exfalso
              have h18 := hk x hx a0 (by omega) a1 h17 (by rw [h13]; exact h14) (by rw [h7]; exact h5)
              have h19 := ho a0 (by omega) (hj_oe_i.mpr ⟨x, hx, hb', hp.1 a0 (by omega), by rw [h13]; exact h14, by rw [h13]; exact h15, Or.inr ⟨j, hj4, h4, h5, h3, by rw [← h7]; exact h18⟩⟩)
              omega
            · exact h17
            · exact absurd ⟨by rw [h7]; exact h5, by rw [h7]; exact h1⟩ (h16 a1 h17 h8)
          have h18 : j' = j := by rw [← h13, ← h17, h7]
          rw [h18]
          simp only [hj_rt, Bool.or_eq_true, beq_iff_eq]
          exact h2
theorem hj_oe_nr {i : Nat} : hj_oe K cm wt sw rk i i = false := by
  apply hj_bf
  intro h
  obtain ⟨x, hx, h1, h2, h3, h4, h5⟩ := hj_oe_i.mp h
  exact h4 rfl
theorem hj_KD_lin (H : hj_hy K cm sw rk) (hp : hj_pm cm n d) (hc : hj_cl cm wt sw) (hk : hj_KR K n wt rk d = true) : hj_KD K n wt sw d = true ↔ hj_lin (hj_se K cm wt sw) n d ∧ hj_lin (hj_oe K cm wt sw rk) n d := by
  rw [hj_KD, hj_al_iff]
  constructor
  · intro h
    have h' := fun b (hb : b < n) => (hj_ra_i H hp hc hk hb (Nat.le_of_lt hb)).mp (h b hb)
    constructor
    · intro a b hab hb
      apply hj_bf
      intro hv
      have := (h' a (by omega)).1 b hb hv
      omega
    · intro a b hab hb
      apply hj_bf
      intro hv
      have h1 := (h' b hb).2 a (by omega) hv
      have e : a = b := by omega
      rw [e, hj_oe_nr] at hv
      exact absurd hv (by decide)
  · rintro ⟨h1, h2⟩ b hb
    refine (hj_ra_i H hp hc hk hb (Nat.le_of_lt hb)).mpr ⟨fun a ha hv => ?_, fun a ha hv => ?_⟩
    · rcases Nat.lt_or_ge a b with h3 | h3
      · exact h3
      · exact absurd hv (hj_nt (h1 b a h3 ha))
    · rcases Nat.lt_or_ge a b with h3 | h3
      · exact absurd hv (hj_nt (h2 a b (by omega) hb))
      · exact h3
end
/-- the snapshot's edges: a near one, perhaps with an overwrite behind it -/
def hj_nr (K : Nat) (cm : Nat → Bool) (wt : Nat → Nat → Bool) (sw : Nat → Nat → Nat → Bool) (rk : Nat → Nat → Nat) (i j : Nat) : Bool := hj_ve K cm wt rk i j || hj_se K cm wt sw i j
def hj_sn (K : Nat) (cm : Nat → Bool) (wt : Nat → Nat → Bool) (sw : Nat → Nat → Nat → Bool) (rk : Nat → Nat → Nat) (i k : Nat) : Bool :=
  hj_nr K cm wt sw rk i k || hj_an 4 fun j => hj_nr K cm wt sw rk i j && hj_oe K cm wt sw rk j k
section
variable {K n : Nat} {cm : Nat → Bool} {wt : Nat → Nat → Bool} {sw : Nat → Nat → Nat → Bool} {rk : Nat → Nat → Nat} {d : Nat → Nat}
theorem hj_sn_i {i k : Nat} : hj_sn K cm wt sw rk i k = true ↔ hj_nr K cm wt sw rk i k = true ∨ ∃ j, j < 4 ∧ hj_nr K cm wt sw rk i j = true ∧ hj_oe K cm wt sw rk j k = true := by
  simp only [hj_sn, Bool.or_eq_true, hj_an_iff, Bool.and_eq_true]
theorem hj_CS_lin (H : hj_hy K cm sw rk) (hp : hj_pm cm n d) (hc : hj_cl cm wt sw) (hk : hj_KR K n wt rk d = true) : hj_CS K n wt sw d = true ↔ hj_lin (hj_sn K cm wt sw rk) n d := by
  have hkl := (hj_KR_lin H hp).mp hk
  have hki := hj_KR_i.mp hk
  simp only [hj_CS, hj_al_iff, hj_an_iff, hj_st, Bool.and_eq_true]
  constructor
  · intro h
    have f1 : ∀ b, b < n → ∃ g, g ≤ b ∧ (∀ a, a < n → hj_nr K cm wt sw rk (d a) (d b) = true → a < g) ∧ (∀ a, a < n → hj_oe K cm wt sw rk (d b) (d a) = true → g ≤ a) := by
      intro b hb
      obtain ⟨g, hg, h1, h2⟩ := h b hb
      obtain ⟨h3, h4⟩ := (hj_ra_i H hp hc hk hb (by omega)).mp h1
      refine ⟨g, by omega, fun a ha hv => ?_, h4⟩
      rw [hj_nr, Bool.or_eq_true] at hv
      rcases hv with hv | hv
      · have hab : a < b := by
          rcases Nat.lt_or_ge a b with h5 | h5
          · exact h5
          · exact absurd hv (hj_nt (hkl b a h5 ha))
        rcases Nat.lt_or_ge a g with h5 | h5
        · exact h5
        · exfalso
          have h6 := h2 a hab
          rw [Bool.or_eq_true, decide_eq_true_eq, Bool.not_eq_true'] at h6
          rcases h6 with h6 | h6
          · omega
          · obtain ⟨x, hx, _, _, h7, h8, _⟩ := hj_ve_i.mp hv
            apply hj_nt h6
            rw [hj_sh, hj_an_iff]
            exact ⟨x, hx, by rw [h7, h8]; rfl⟩
      · exact h3 a ha hv
    intro a b hab hb
    apply hj_bf
    intro hv
    rcases hj_sn_i.mp hv with hv | ⟨j, hj, h1, h2⟩
    · obtain ⟨g, h3, h4, _⟩ := f1 a (by omega)
      have := h4 b hb hv
      omega
    · obtain ⟨_, _, hcj, _⟩ := hj_oe_i.mp h2
      obtain ⟨c, hcn, rfl⟩ := hp.2.2 j hcj
      obtain ⟨g, h3, h4, h5⟩ := f1 c hcn
      have h6 := h4 b hb h1
      have h7 := h5 a (by omega) h2
      omega
  · intro h b hb
    obtain ⟨g, hg, hl⟩ := pk_least (fun g => ∀ a, a < n → hj_nr K cm wt sw rk (d a) (d b) = true → a < g) ⟨n, fun a ha _ => ha⟩
    have hz : g = 0 ∨ ∃ c, c < n ∧ g = c + 1 ∧ hj_nr K cm wt sw rk (d c) (d b) = true := by
      rcases Nat.eq_zero_or_pos g with h0 | h0
      · exact Or.inl h0
      · refine Or.inr ?_
        have h1 := hl (g - 1) (by omega)
        have h2 : ∃ a, a < n ∧ hj_nr K cm wt sw rk (d a) (d b) = true ∧ ¬ a < g - 1 := by
          apply Classical.byContradiction
          intro h3
          apply h1
          intro a ha hv
          apply Classical.byContradiction
          intro h4
          exact h3 ⟨a, ha, hv, h4⟩
        obtain ⟨a, ha, hv, h3⟩ := h2
        have h4 := hg a ha hv
        exact ⟨a, ha, by omega, hv⟩
    have hgb : g ≤ b := by
      rcases hz with hz | ⟨c, h1, h2, h3⟩
      · omega
      · rcases Nat.lt_or_ge c b with h4 | h4
        · omega
        · exact absurd (hj_sn_i.mpr (Or.inl h3)) (hj_nt (h b c h4 h1))
    refine ⟨g, by omega, (hj_ra_i H hp hc hk hb (by omega)).mpr ⟨fun a ha hv => hg a ha (by rw [hj_nr, hv, Bool.or_true]), fun a ha hv => ?_⟩, fun a hab => ?_⟩
    · rcases hz with hz | ⟨c, h1, h2, h3⟩
      · omega
      · rcases Nat.lt_or_ge c a with h4 | h4
        · omega
        · exact absurd (hj_sn_i.mpr (Or.inr ⟨d b, H.2.1 _ (hp.1 b hb), h3, hv⟩)) (hj_nt (h a c h4 h1))
    · rw [Bool.or_eq_true, decide_eq_true_eq, Bool.not_eq_true']
      rcases Nat.lt_or_ge a g with h4 | h4
      · exact Or.inl h4
      · refine Or.inr (hj_bf fun hv => ?_)
        rw [hj_sh, hj_an_iff] at hv
        obtain ⟨x, hx, h5⟩ := hv
        rw [Bool.and_eq_true] at h5
        have h6 := hki x hx b hb a hab h5.2 h5.1
        have h7 := hg a (by omega) (by
          rw [hj_nr, Bool.or_eq_true]
          exact Or.inl (hj_ve_i.mpr ⟨x, hx, hp.1 a (by omega), hp.1 b hb, h5.1, h5.2, h6⟩))
        omega
end
/-! the edges of each judgement, and what the reference asks of a list -/
def hj_ED (kd K : Nat) (cm : Nat → Bool) (wt : Nat → Nat → Bool) (sw : Nat → Nat → Nat → Bool) (rk : Nat → Nat → Nat) (i j : Nat) : Bool :=
  if kd = 1 then hj_ve K cm wt rk i j else if kd = 2 then hj_nr K cm wt sw rk i j else if kd = 3 then hj_sn K cm wt sw rk i j else hj_nr K cm wt sw rk i j || hj_oe K cm wt sw rk i j
def hj_CK (kd K n : Nat) (wt : Nat → Nat → Bool) (sw : Nat → Nat → Nat → Bool) (d : Nat → Nat) : Bool :=
  if kd = 1 then true else if kd = 2 then hj_KS n sw d else if kd = 3 then hj_CS K n wt sw d else hj_KD K n wt sw d
theorem hj_law {kd K n : Nat} {cm : Nat → Bool} {wt : Nat → Nat → Bool} {sw : Nat → Nat → Nat → Bool} {rk : Nat → Nat → Nat} {d : Nat → Nat} (hkd : kd = 1 ∨ kd = 2 ∨ kd = 3 ∨ kd = 4) (H : hj_hy K cm sw rk) (hp : hj_pm cm n d) (hc : kd = 1 ∨ hj_cl cm wt sw) : (hj_KR K n wt rk d && hj_CK kd K n wt sw d) = true ↔ hj_lin (hj_ED kd K cm wt sw rk) n d := by
  rw [Bool.and_eq_true]
  rcases hkd with rfl | rfl | rfl | rfl
  · show _ ∧ true = true ↔ _
    rw [hj_KR_lin (cm := cm) H hp]
    exact ⟨fun h => h.1, fun h => ⟨h, rfl⟩⟩
  · have hc' : hj_cl cm wt sw := by rcases hc with h | h; · omega
                                    · exact h
    show _ ∧ hj_KS n sw d = true ↔ _
    rw [hj_KS_lin H hp hc', hj_KR_lin (cm := cm) H hp]
    constructor
    · intro ⟨h1, h2⟩ a b hab hb
      show (_ || _) = false
      rw [h1 a b hab hb, h2 a b hab hb]; rfl
    · intro h
      exact ⟨fun a b hab hb => (Bool.or_eq_false_iff.mp (h a b hab hb)).1, fun a b hab hb => (Bool.or_eq_false_iff.mp (h a b hab hb)).2⟩
  · have hc' : hj_cl cm wt sw := by rcases hc with h | h; · omega
                                    · exact h
    show _ ∧ hj_CS K n wt sw d = true ↔ hj_lin (hj_sn K cm wt sw rk) n d
    constructor
    · intro ⟨h1, h2⟩
      exact (hj_CS_lin H hp hc' h1).mp h2
    · intro h
      have h1 : hj_KR K n wt rk d = true := (hj_KR_lin (cm := cm) H hp).mpr fun a b hab hb =>
        (Bool.or_eq_false_iff.mp (Bool.or_eq_false_iff.mp (h a b hab hb)).1).1
      exact ⟨h1, (hj_CS_lin H hp hc' h1).mpr h⟩
  · have hc' : hj_cl cm wt sw := by rcases hc with h | h; · omega
                                    · exact h
    show _ ∧ hj_KD K n wt sw d = true ↔ _
    constructor
    · intro ⟨h1, h2⟩
      obtain ⟨h3, h4⟩ := (hj_KD_lin H hp hc' h1).mp h2
      have h5 := (hj_KR_lin (cm := cm) H hp).mp h1
      intro a b hab hb
      show ((_ || _) || _) = false
      rw [h5 a b hab hb, h3 a b hab hb, h4 a b hab hb]; rfl
    · intro h
      have h0 : ∀ a b, a ≤ b → b < n → hj_ve K cm wt rk (d b) (d a) = false ∧ hj_se K cm wt sw (d b) (d a) = false ∧ hj_oe K cm wt sw rk (d b) (d a) = false := by
        intro a b hab hb
        have h1 := Bool.or_eq_false_iff.mp (h a b hab hb)
        have h2 := Bool.or_eq_false_iff.mp h1.1
        exact ⟨h2.1, h2.2, h1.2⟩
      have h1 : hj_KR K n wt rk d = true := (hj_KR_lin (cm := cm) H hp).mpr fun a b hab hb => (h0 a b hab hb).1
      exact ⟨h1, (hj_KD_lin H hp hc' h1).mpr ⟨fun a b hab hb => (h0 a b hab hb).2.1, fun a b hab hb => (h0 a b hab hb).2.2⟩⟩
end
section
/-! counting -/
def hj_cn : Nat → (Nat → Bool) → Nat
  | 0, _ => 0
  | N + 1, p => hj_cn N p + cond (p N) 1 0
theorem hj_cnc {p q : Nat → Bool} : ∀ {N : Nat}, (∀ j, j < N → p j = q j) → hj_cn N p = hj_cn N q := by
  intro N
  induction N with
  | zero => intro _; rfl
  | succ N ih =>
    intro h
    show hj_cn N p + cond (p N) 1 0 = hj_cn N q + cond (q N) 1 0
    rw [ih fun j hj => h j (by omega), h N (by omega)]
theorem hj_cn_rm {p : Nat → Bool} {i : Nat} (hp : p i = true) : ∀ {N : Nat}, i < N → hj_cn N (fun j => p j && !(j == i)) + 1 = hj_cn N p := by
  intro N
  induction N with
  | zero => intro h; exact absurd h (Nat.not_lt_zero i)
  | succ N ih =>
    intro h
    show hj_cn N (fun j => p j && !(j == i)) + cond (p N && !(N == i)) 1 0 + 1 = hj_cn N p + cond (p N) 1 0
    rcases Nat.lt_or_ge i N with h1 | h1
    · have e : (N == i) = false := by rw [beq_eq_false_iff_ne]; omega
      rw [e, Bool.not_false, Bool.and_true, ← ih h1]
      omega
    · have e : N = i := by omega
      have e2 : (N == i) = true := by rw [beq_iff_eq]; exact e
      have e3 : p N = true := by rw [e]; exact hp
      rw [e2, e3, hj_cnc (q := p) (N := N) fun j hj => by
        have e4 : (j == i) = false := by rw [beq_eq_false_iff_ne]; omega
        rw [e4, Bool.not_false, Bool.and_true]]
      rfl
theorem hj_cn0 {p : Nat → Bool} : ∀ {N : Nat}, (∀ j, j < N → p j = false) → hj_cn N p = 0 := by
  intro N
  induction N with
  | zero => intro _; rfl
  | succ N ih =>
    intro h
    show hj_cn N p + cond (p N) 1 0 = 0
    rw [ih fun j hj => h j (by omega), h N (by omega)]
    rfl
theorem hj_cn_N {p : Nat → Bool} : ∀ {N : Nat}, hj_cn N p ≤ N := by
  intro N
  induction N with
  | zero => exact Nat.le_refl _
  | succ N ih =>
    show hj_cn N p + cond (p N) 1 0 ≤ N + 1
    cases p N
    · show hj_cn N p + 0 ≤ N + 1; omega
    · show hj_cn N p + 1 ≤ N + 1; omega
theorem hj_cn_le {N : Nat} : ∀ (n : Nat) (d : Nat → Nat) (p : Nat → Bool), (∀ k, k < n → d k < N ∧ p (d k) = true) → (∀ a b, a < n → b < n → d a = d b → a = b) → n ≤ hj_cn N p := by
  intro n
  induction n with
  | zero => intro d p _ _; exact Nat.zero_le _
  | succ n ih =>
    intro d p h hi
    have h1 := hj_cn_rm (h n (by omega)).2 (h n (by omega)).1
    have h2 := ih d (fun j => p j && !(j == d n)) (fun k hk => ⟨(h k (by omega)).1, by
      rw [(h k (by omega)).2, Bool.true_and, Bool.not_eq_true', beq_eq_false_iff_ne]
      intro e
      have := hi k n (by omega) (by omega) e
      omega⟩) (fun a b ha hb => hi a b (by omega) (by omega))
    omega
theorem hj_cn_ge {N : Nat} : ∀ (r : Nat) (g : Nat → Nat) (p : Nat → Bool), (∀ i, i < N → p i = true → ∃ k, k < r ∧ g k = i) → hj_cn N p ≤ r := by
  intro r
  induction r with
  | zero =>
    intro g p h
    have e : hj_cn N p = 0 := hj_cn0 fun j hj => hj_bf fun hp => by
      obtain ⟨k, hk, _⟩ := h j hj hp
      omega
    omega
  | succ r ih =>
    intro g p h
    by_cases hc : g r < N ∧ p (g r) = true
    · have h1 := hj_cn_rm hc.2 hc.1
      have h2 := ih g (fun j => p j && !(j == g r)) (fun i hi hp => by
        rw [Bool.and_eq_true, Bool.not_eq_true', beq_eq_false_iff_ne] at hp
        obtain ⟨k, hk, e⟩ := h i hi hp.1
        refine ⟨k, ?_, e⟩
        have : k ≠ r := fun e2 => hp.2 (by rw [← e, e2])
        omega)
      omega
    · have h2 := ih g p (fun i hi hp => by
        obtain ⟨k, hk, e⟩ := h i hi hp
        refine ⟨k, ?_, e⟩
        have : k ≠ r := fun e2 => hc (by rw [← e2, e]; exact ⟨hi, hp⟩)
        omega)
      omega
theorem hj_cov {N n : Nat} {d : Nat → Nat} {p : Nat → Bool} (h : ∀ k, k < n → d k < N ∧ p (d k) = true) (hi : ∀ a b, a < n → b < n → d a = d b → a = b) (hn : hj_cn N p ≤ n) : ∀ i, i < N → p i = true → ∃ k, k < n ∧ d k = i := by
  intro i hiN hp
  apply Classical.byContradiction
  intro hx
  have h1 := hj_cn_rm hp hiN
  have h2 := hj_cn_le (N := N) n d (fun j => p j && !(j == i)) (fun k hk => ⟨(h k hk).1, by
    rw [(h k hk).2, Bool.true_and, Bool.not_eq_true', beq_eq_false_iff_ne]
    exact fun e => hx ⟨k, hk, e⟩⟩) hi
  omega
/-! the greedy list -/
def hj_fr (w : Nat → Bool) (E : Nat → Nat → Bool) (i : Nat) : Bool := w i && !hj_an 4 fun h => w h && E h i
def hj_wk (cm : Nat → Bool) (g : Nat → Nat) (k i : Nat) : Bool := cm i && !hj_an k fun q => g q == i
def hj_gp (cm : Nat → Bool) (E : Nat → Nat → Bool) (r : Nat) (g : Nat → Nat) : Prop :=
  ∀ k, k < r → hj_fr (hj_wk cm g k) E (g k) = true ∧ ∀ j, j < g k → hj_fr (hj_wk cm g k) E j = false
theorem hj_fr_i {w : Nat → Bool} {E : Nat → Nat → Bool} {i : Nat} : hj_fr w E i = true ↔ w i = true ∧ ∀ h, h < 4 → w h = true → E h i = false := by
  rw [hj_fr, Bool.and_eq_true, Bool.not_eq_true']
  constructor
  · rintro ⟨h1, h2⟩
    refine ⟨h1, fun h h4 hw => hj_bf fun hE => hj_nt h2 ?_⟩
    rw [hj_an_iff]
    exact ⟨h, h4, by rw [hw, hE]; rfl⟩
  · rintro ⟨h1, h2⟩
    refine ⟨h1, hj_bf fun h => ?_⟩
    rw [hj_an_iff] at h
    obtain ⟨j, h4, h5⟩ := h
    rw [Bool.and_eq_true] at h5
    exact hj_nt (h2 j h4 h5.1) h5.2
theorem hj_wk_i {cm : Nat → Bool} {g : Nat → Nat} {k i : Nat} : hj_wk cm g k i = true ↔ cm i = true ∧ ∀ q, q < k → g q ≠ i := by
  rw [hj_wk, Bool.and_eq_true, Bool.not_eq_true']
  constructor
  · rintro ⟨h1, h2⟩
    refine ⟨h1, fun q hq e => hj_nt h2 ?_⟩
    rw [hj_an_iff]
    exact ⟨q, hq, by rw [beq_iff_eq]; exact e⟩
  · rintro ⟨h1, h2⟩
    refine ⟨h1, hj_bf fun h => ?_⟩
    rw [hj_an_iff] at h
    obtain ⟨j, h4, h5⟩ := h
    rw [beq_iff_eq] at h5
    exact h2 j h4 h5
section
variable {cm : Nat → Bool} {E : Nat → Nat → Bool} {n r : Nat} {g d : Nat → Nat}
theorem hj_gp_in (hg : hj_gp cm E r g) : (∀ k, k < r → cm (g k) = true) ∧ ∀ a b, a < r → b < r → g a = g b → a = b := by
  have h1 : ∀ k, k < r → cm (g k) = true ∧ ∀ q, q < k → g q ≠ g k := fun k hk => hj_wk_i.mp (hj_fr_i.mp (hg k hk).1).1
  refine ⟨fun k hk => (h1 k hk).1, fun a b ha hb e => ?_⟩
  rcases Nat.lt_trichotomy a b with h | h | h
  · exact absurd e ((h1 b hb).2 a h)
  · exact h
  · exact absurd e.symm ((h1 a ha).2 b h)
theorem hj_gp_ok (h4 : ∀ i, cm i = true → i < 4) (hg : hj_gp cm E r g) (hc : ∀ i, cm i = true → ∃ k, k < r ∧ g k = i) : hj_pm cm r g ∧ hj_lin E r g := by
  obtain ⟨h1, h2⟩ := hj_gp_in hg
  refine ⟨⟨h1, h2, hc⟩, fun a b hab hb => ?_⟩
  refine (hj_fr_i.mp (hg a (by omega)).1).2 (g b) (h4 _ (h1 b hb)) (hj_wk_i.mpr ⟨h1 b hb, fun q hq e => ?_⟩)
  have := h2 q b (by omega) hb e
  omega
theorem hj_gp_min (hg : hj_gp cm E n g) (hd : hj_pm cm n d) (hl : hj_lin E n d) : ∀ k, k < n → (∀ q, q < k → g q = d q) → g k ≤ d k := by
  intro k hk hq
  rcases Nat.lt_or_ge (d k) (g k) with h | h
  · exfalso
    apply hj_nt ((hg k hk).2 (d k) h)
    refine hj_fr_i.mpr ⟨hj_wk_i.mpr ⟨hd.1 k hk, fun q hqk e => ?_⟩, fun h' h4 hw => ?_⟩
    · rw [hq q hqk] at e
      have := hd.2.1 q k (by omega) hk e
      omega
    · obtain ⟨h5, h6⟩ := hj_wk_i.mp hw
      obtain ⟨q, h7, rfl⟩ := hd.2.2 h' h5
      rcases Nat.lt_or_ge q k with h8 | h8
      · exact absurd (hq q h8) (h6 q h8)
      · exact hl k q h8 h7
  · exact h
theorem hj_stuck {w : Nat → Bool} (hw : ∃ i, w i = true) (hs : ∀ i, w i = true → cm i = true) (h4 : ∀ i, cm i = true → i < 4) (hf : ∀ i, i < 4 → hj_fr w E i = false) (hd : hj_pm cm n d) (hl : hj_lin E n d) : False := by
  obtain ⟨i, hi⟩ := hw
  obtain ⟨k0, hk0, e0⟩ := hd.2.2 i (hs i hi)
  obtain ⟨k, ⟨hk, hkw⟩, hmin⟩ := pk_least (fun k => k < n ∧ w (d k) = true) ⟨k0, hk0, by rw [e0]; exact hi⟩
  apply hj_nt (hf (d k) (h4 _ (hd.1 k hk)))
  refine hj_fr_i.mpr ⟨hkw, fun h _ hh => ?_⟩
  obtain ⟨q, hq, rfl⟩ := hd.2.2 h (hs h hh)
  rcases Nat.lt_or_ge q k with h8 | h8
  · exact absurd ⟨hq, hh⟩ (hmin q h8)
  · exact hl k q h8 hq
theorem hj_pm_cg (h : ∀ k, k < n → g k = d k) (hp : hj_pm cm n g) : hj_pm cm n d := by
  refine ⟨fun k hk => by rw [← h k hk]; exact hp.1 k hk, fun a b ha hb e => hp.2.1 a b ha hb (by rw [h a ha, h b hb]; exact e), fun i hi => ?_⟩
  obtain ⟨k, hk, e⟩ := hp.2.2 i hi
  exact ⟨k, hk, by rw [← h k hk]; exact e⟩
theorem hj_lin_cg (h : ∀ k, k < n → g k = d k) (hp : hj_lin E n g) : hj_lin E n d := by
  intro a b hab hb
  rw [← h b hb, ← h a (by omega)]
  exact hp a b hab hb
end
/-! the codes -/
def hj_dg : Nat → Nat → Nat → Nat
  | 0, _, _ => 0
  | n + 1, c, k => if k = n then c % 4 else hj_dg n (c / 4) k
theorem hj_dg_s (n c : Nat) : hj_dg (n + 1) c n = c % 4 := if_pos rfl
theorem hj_dg_n {n k : Nat} (c : Nat) (h : k ≠ n) : hj_dg (n + 1) c k = hj_dg n (c / 4) k := if_neg h
theorem hj_dg_lt : ∀ n c k : Nat, hj_dg n c k < 4 := by
  intro n
  induction n with
  | zero => intro c k; exact Nat.zero_lt_succ 3
  | succ n ih =>
    intro c k
    by_cases h : k = n
    · rw [h, hj_dg_s]; omega
    · rw [hj_dg_n c h]; exact ih _ _
theorem hj_dg_le : ∀ n c c' : Nat, c < 4 ^ n → (∀ k, k < n → (∀ q, q < k → hj_dg n c q = hj_dg n c' q) → hj_dg n c k ≤ hj_dg n c' k) → c ≤ c' := by
  intro n
  induction n with
  | zero => intro c c' h _; rw [Nat.pow_zero] at h; omega
  | succ n ih =>
    intro c c' h hk
    rw [Nat.pow_succ] at h
    have h1 : c / 4 ≤ c' / 4 := ih (c / 4) (c' / 4) (by omega) fun k hkn hq => by
      have h2 := hk k (by omega) fun q hqk => by
        rw [hj_dg_n c (by omega), hj_dg_n c' (by omega)]; exact hq q hqk
      rw [hj_dg_n c (by omega), hj_dg_n c' (by omega)] at h2
      exact h2
    rcases Nat.lt_or_ge (c / 4) (c' / 4) with h3 | h3
    · omega
    · have e : c / 4 = c' / 4 := by omega
      have h2 := hk n (by omega) fun q hqk => by
        rw [hj_dg_n c (by omega), hj_dg_n c' (by omega), e]
      rw [hj_dg_s, hj_dg_s] at h2
      omega
theorem hj_dg_ex : ∀ (n : Nat) (f : Nat → Nat), (∀ k, k < n → f k < 4) → ∃ c, c < 4 ^ n ∧ ∀ k, k < n → hj_dg n c k = f k := by
  intro n
  induction n with
  | zero => intro f _; exact ⟨0, by decide, fun k hk => absurd hk (Nat.not_lt_zero k)⟩
  | succ n ih =>
    intro f hf
    obtain ⟨c, hc, h⟩ := ih f fun k hk => hf k (by omega)
    have hn := hf n (by omega)
    refine ⟨4 * c + f n, by rw [Nat.pow_succ]; omega, fun k hk => ?_⟩
    by_cases e : k = n
    · rw [e, hj_dg_s]; omega
    · rw [hj_dg_n _ e, show (4 * c + f n) / 4 = c by omega]
      exact h k (by omega)
def hj_sp (cm : Nat → Bool) : Nat → Nat → (Nat → Bool) → Bool
  | 0, _, _ => true
  | m + 1, c, p => (cm (c % 4) && !p (c % 4)) && hj_sp cm m (c / 4) (fun i => p i || i == c % 4)
theorem hj_sp_i {cm : Nat → Bool} : ∀ (m c : Nat) (p : Nat → Bool), hj_sp cm m c p = true ↔ (∀ k, k < m → cm (hj_dg m c k) = true ∧ p (hj_dg m c k) = false) ∧ ∀ a b, a < m → b < m → hj_dg m c a = hj_dg m c b → a = b := by
  intro m
  induction m with
  | zero => intro c p; exact ⟨fun _ => ⟨fun k hk => absurd hk (Nat.not_lt_zero k), fun a b ha => absurd ha (Nat.not_lt_zero a)⟩, fun _ => rfl⟩
  | succ m ih =>
    intro c p
    show ((cm (c % 4) && !p (c % 4)) && hj_sp cm m (c / 4) (fun i => p i || i == c % 4)) = true ↔ _
    rw [Bool.and_eq_true, Bool.and_eq_true, Bool.not_eq_true', ih]
    constructor
    · rintro ⟨⟨h1, h2⟩, h3, h4⟩
      have h5 : ∀ k, k < m → hj_dg m (c / 4) k ≠ c % 4 := fun k hk e => by
        have h6 := (h3 k hk).2
        rw [Bool.or_eq_false_iff, beq_eq_false_iff_ne] at h6
        exact h6.2 e
      refine ⟨fun k hk => ?_, fun a b ha hb e => ?_⟩
      · by_cases e : k = m
        · rw [e, hj_dg_s]; exact ⟨h1, h2⟩
        · rw [hj_dg_n c e]
          have h6 := h3 k (by omega)
          exact ⟨h6.1, (Bool.or_eq_false_iff.mp h6.2).1⟩
      · by_cases ea : a = m
        · by_cases eb : b = m
          · rw [ea, eb]
          · rw [ea, hj_dg_s, hj_dg_n c eb] at e
            exact absurd e.symm (h5 b (by omega))
        · by_cases eb : b = m
          · rw [eb, hj_dg_s, hj_dg_n c ea] at e
            exact absurd e (h5 a (by omega))
          · rw [hj_dg_n c ea, hj_dg_n c eb] at e
            exact h4 a b (by omega) (by omega) e
    · rintro ⟨h1, h2⟩
      have h3 := h1 m (by omega)
      rw [hj_dg_s] at h3
      refine ⟨h3, fun k hk => ?_, fun a b ha hb e => ?_⟩
      · have h4 := h1 k (by omega)
        rw [hj_dg_n c (by omega)] at h4
        refine ⟨h4.1, ?_⟩
        rw [Bool.or_eq_false_iff, beq_eq_false_iff_ne]
        refine ⟨h4.2, fun e => ?_⟩
        have h5 := h2 k m (by omega) (by omega) (by rw [hj_dg_n c (by omega), hj_dg_s]; exact e)
        omega
      · exact h2 a b (by omega) (by omega) (by rw [hj_dg_n c (by omega), hj_dg_n c (by omega)]; exact e)
/-- what the reference asks of code c -/
def hj_gd (kd K n : Nat) (cm : Nat → Bool) (wt : Nat → Nat → Bool) (sw : Nat → Nat → Nat → Bool) (rk : Nat → Nat → Nat) (c : Nat) : Bool :=
  hj_sp cm n c (fun _ => false) && (hj_KR K n wt rk (hj_dg n c) && hj_CK kd K n wt sw (hj_dg n c))
section
variable {kd K : Nat} {cm : Nat → Bool} {wt : Nat → Nat → Bool} {sw : Nat → Nat → Nat → Bool} {rk : Nat → Nat → Nat}
theorem hj_gd_i (hkd : kd = 1 ∨ kd = 2 ∨ kd = 3 ∨ kd = 4) (H : hj_hy K cm sw rk) (hc : kd = 1 ∨ hj_cl cm wt sw) (c : Nat) : hj_gd kd K (hj_cn 4 cm) cm wt sw rk c = true ↔ hj_pm cm (hj_cn 4 cm) (hj_dg (hj_cn 4 cm) c) ∧ hj_lin (hj_ED kd K cm wt sw rk) (hj_cn 4 cm) (hj_dg (hj_cn 4 cm) c) := by
  rw [hj_gd, Bool.and_eq_true]
  have e : hj_sp cm (hj_cn 4 cm) c (fun _ => false) = true ↔ hj_pm cm (hj_cn 4 cm) (hj_dg (hj_cn 4 cm) c) := by
    rw [hj_sp_i]
    constructor
    · rintro ⟨h1, h2⟩
      refine ⟨fun k hk => (h1 k hk).1, h2, fun i hi => ?_⟩
      exact hj_cov (N := 4) (fun k hk => ⟨hj_dg_lt _ _ _, (h1 k hk).1⟩) h2 (Nat.le_refl _) i (H.2.1 i hi) hi
    · rintro ⟨h1, h2, _⟩
      exact ⟨fun k hk => ⟨h1 k hk, rfl⟩, h2⟩
  rw [e]
  constructor
  · rintro ⟨h1, h2⟩
    exact ⟨h1, (hj_law hkd H h1 hc).mp h2⟩
  · rintro ⟨h1, h2⟩
    exact ⟨h1, (hj_law hkd H h1 hc).mpr h2⟩
theorem hj_found (hkd : kd = 1 ∨ kd = 2 ∨ kd = 3 ∨ kd = 4) (H : hj_hy K cm sw rk) (hc : kd = 1 ∨ hj_cl cm wt sw) {r : Nat} {g : Nat → Nat} (hg : hj_gp cm (hj_ED kd K cm wt sw rk) r g) (hcv : ∀ i, cm i = true → ∃ k, k < r ∧ g k = i) :
    r = hj_cn 4 cm ∧ ∃ c, c < 4 ^ hj_cn 4 cm ∧ hj_gd kd K (hj_cn 4 cm) cm wt sw rk c = true ∧ (∀ k, k < hj_cn 4 cm → hj_dg (hj_cn 4 cm) c k = g k) ∧ ∀ c', hj_gd kd K (hj_cn 4 cm) cm wt sw rk c' = true → c ≤ c' := by
  obtain ⟨hp, hl⟩ := hj_gp_ok H.2.1 hg hcv
  have hr : r = hj_cn 4 cm := by
    have h1 := hj_cn_le (N := 4) r g cm (fun k hk => ⟨H.2.1 _ (hp.1 k hk), hp.1 k hk⟩) hp.2.1
    have h2 := hj_cn_ge (N := 4) r g cm (fun i _ hi => hcv i hi)
    omega
  refine ⟨hr, ?_⟩
  subst hr
  obtain ⟨c, hc4, hcd⟩ := hj_dg_ex (hj_cn 4 cm) g fun k hk => H.2.1 _ (hp.1 k hk)
  refine ⟨c, hc4, (hj_gd_i hkd H hc c).mpr ⟨hj_pm_cg (fun k hk => (hcd k hk).symm) hp, hj_lin_cg (fun k hk => (hcd k hk).symm) hl⟩, hcd, fun c' hc' => ?_⟩
  obtain ⟨hp', hl'⟩ := (hj_gd_i hkd H hc c').mp hc'
  refine hj_dg_le _ c c' hc4 fun k hk hq => ?_
  rw [hcd k hk]
  refine hj_gp_min hg hp' hl' k hk fun q hqk => ?_
  rw [← hcd q (by omega)]
  exact hq q hqk
theorem hj_lost (hkd : kd = 1 ∨ kd = 2 ∨ kd = 3 ∨ kd = 4) (H : hj_hy K cm sw rk) (hc : kd = 1 ∨ hj_cl cm wt sw) {w : Nat → Bool} (hw : ∃ i, w i = true) (hs : ∀ i, w i = true → cm i = true) (hf : ∀ i, i < 4 → hj_fr w (hj_ED kd K cm wt sw rk) i = false) (c : Nat) : hj_gd kd K (hj_cn 4 cm) cm wt sw rk c = false := by
  apply hj_bf
  intro h
  obtain ⟨hp, hl⟩ := (hj_gd_i hkd H hc c).mp h
  exact hj_stuck hw hs H.2.1 hf hp hl
end
end
section
/-! the ranking of one key -/
def hj_cm (st : Nat → Int32) (i : Nat) : Bool := decide (st i = 1)
def hj_wt (wr : Nat → Int32) (i x : Nat) : Bool := decide (¬ wr (i * 4 + x) ≤ 0)
def hj_sw (sw : Nat → Int32) (i x k : Nat) : Bool := decide (¬ sw ((i * 4 + x) * 9 + k) = 0)
def hj_ps (i : Nat) : List Nat → Nat → Nat
  | [], _ => 4 + i
  | a :: l, k => if a = i then k else hj_ps i l (k + 1)
def hj_rf (ol : Nat → List Nat) (x i : Nat) : Nat := hj_ps i (ol x) 0
theorem hj_ps_ge {i : Nat} : ∀ (l : List Nat) (k : Nat), k + l.length ≤ 4 → k ≤ hj_ps i l k := by
  intro l
  induction l with
  | nil => intro k h; show k ≤ 4 + i; simp at h; omega
  | cons a l ih =>
    intro k h
    rw [List.length_cons] at h
    show k ≤ if a = i then k else hj_ps i l (k + 1)
    split
    · omega
    · have := ih (k + 1) (by omega); omega
theorem hj_ps_in {i : Nat} : ∀ (l : List Nat) (k : Nat), i ∈ l → hj_ps i l k < k + l.length := by
  intro l
  induction l with
  | nil => intro k h; exact absurd h (by simp)
  | cons a l ih =>
    intro k h
    rw [List.length_cons]
    show (if a = i then k else hj_ps i l (k + 1)) < _
    split
    · omega
    · rename_i hn
      have h2 : i ∈ l := by
        rcases List.mem_cons.mp h with h | h
        · exact absurd h.symm hn
        · exact h
      have := ih (k + 1) h2; omega
theorem hj_ps_out {i : Nat} : ∀ (l : List Nat) (k : Nat), i ∉ l → hj_ps i l k = 4 + i := by
  intro l
  induction l with
  | nil => intro k h; rfl
  | cons a l ih =>
    intro k h
    have h1 : ¬ a = i := fun e => h (by rw [e]; exact List.mem_cons_self)
    show (if a = i then k else hj_ps i l (k + 1)) = _
    rw [if_neg h1]
    exact ih (k + 1) fun h2 => h (List.mem_cons_of_mem _ h2)
theorem hj_ps_inj {i j : Nat} : ∀ (l : List Nat) (k : Nat), k + l.length ≤ 4 → hj_ps i l k = hj_ps j l k → i = j := by
  intro l
  induction l with
  | nil => intro k h e; have e2 : 4 + i = 4 + j := e; omega
  | cons a l ih =>
    intro k h e
    rw [List.length_cons] at h
    have e2 : (if a = i then k else hj_ps i l (k + 1)) = if a = j then k else hj_ps j l (k + 1) := e
    by_cases h1 : a = i
    · by_cases h2 : a = j
      · omega
      · rw [if_pos h1, if_neg h2] at e2
        have := hj_ps_ge (i := j) l (k + 1) (by omega)
        omega
    · by_cases h2 : a = j
      · rw [if_neg h1, if_pos h2] at e2
        have := hj_ps_ge (i := i) l (k + 1) (by omega)
        omega
      · rw [if_neg h1, if_neg h2] at e2
        exact ih (k + 1) (by omega) e2
theorem hj_ps_pw : ∀ (l : List Nat) (k : Nat), l.Nodup → k + l.length ≤ 4 → l.Pairwise (fun a b => hj_ps a l k < hj_ps b l k) := by
  intro l
  induction l with
  | nil => intro k _ _; exact List.Pairwise.nil
  | cons a l ih =>
    intro k hn h
    rw [List.length_cons] at h
    obtain ⟨h1, h2⟩ := List.nodup_cons.mp hn
    have hne : ∀ b, b ∈ l → hj_ps b (a :: l) k = hj_ps b l (k + 1) := fun b hb => by
      show (if a = b then k else hj_ps b l (k + 1)) = _
      rw [if_neg fun e => h1 (by rw [e]; exact hb)]
    refine List.Pairwise.cons (fun b hb => ?_) ?_
    · rw [hne b hb]
      show (if a = a then k else _) < _
      rw [if_pos rfl]
      have := hj_ps_ge (i := b) l (k + 1) (by omega)
      omega
    · refine List.Pairwise.imp_of_mem (fun ha hb hr => ?_) (ih (k + 1) h2 (by omega))
      rw [hne _ ha, hne _ hb]
      exact hr
def hj_R (T : Nat) (cm wx : Nat → Bool) (l : List Nat) : List Nat :=
  l.filter cm ++ (List.range T).filter fun i => (!decide (i ∈ l) && cm i) && wx i
theorem hj_R_m {T : Nat} {cm wx : Nat → Bool} {l : List Nat} (hT : ∀ i, cm i = true → i < T) (hl : ∀ v, v ∈ l → wx v = true) (j : Nat) : j ∈ hj_R T cm wx l ↔ cm j = true ∧ wx j = true := by
  unfold hj_R
  rw [List.mem_append, List.mem_filter, List.mem_filter, List.mem_range, Bool.and_eq_true, Bool.and_eq_true, Bool.not_eq_true', decide_eq_false_iff_not]
  constructor
  · rintro (⟨h1, h2⟩ | ⟨h1, ⟨h2, h3⟩, h4⟩)
    · exact ⟨h2, hl j h1⟩
    · exact ⟨h3, h4⟩
  · rintro ⟨h1, h2⟩
    by_cases h : j ∈ l
    · exact Or.inl ⟨h, h1⟩
    · exact Or.inr ⟨hT j h1, ⟨h, h1⟩, h2⟩
theorem hj_R_pw {T : Nat} {cm wx : Nat → Bool} {l : List Nat} (hn : l.Nodup) (hl : l.length ≤ 4) : (hj_R T cm wx l).Pairwise (fun a b => hj_ps a l 0 < hj_ps b l 0) := by
  unfold hj_R
  refine List.pairwise_append.mpr ⟨(hj_ps_pw l 0 hn (by omega)).filter cm, ?_, ?_⟩
  · have h1 : ((List.range T).filter fun i => (!decide (i ∈ l) && cm i) && wx i).Pairwise (fun a b => a < b) := List.pairwise_lt_range.filter _
    refine List.Pairwise.imp_of_mem (fun {a b} ha hb hr => ?_) h1
    rw [List.mem_filter, Bool.and_eq_true, Bool.and_eq_true, Bool.not_eq_true', decide_eq_false_iff_not] at ha hb
    rw [hj_ps_out l 0 ha.2.1.1, hj_ps_out l 0 hb.2.1.1]
    omega
  · intro a ha b hb
    rw [List.mem_filter] at ha hb
    rw [Bool.and_eq_true, Bool.and_eq_true, Bool.not_eq_true', decide_eq_false_iff_not] at hb
    have h1 := hj_ps_in l 0 ha.1
    rw [hj_ps_out l 0 hb.2.1.1]
    omega
theorem hj_nd4 {l : List Nat} {N : Nat} (hn : l.Nodup) (h : ∀ v, v ∈ l → v < N) : l.length ≤ N := by
  have h1 := List.Nodup.length_le_of_subset hn (l₂ := List.range N) (fun v hv => List.mem_range.mpr (h v hv))
  rw [List.length_range] at h1
  exact h1
theorem hj_pw_nd {l : List Nat} {f : Nat → Nat} (h : l.Pairwise (fun a b => f a < f b)) : l.Nodup :=
  List.Pairwise.imp (fun {a b} hr e => by rw [e] at hr; omega) h
theorem hj_aft {R dn rs : List Nat} {s : Nat} {f : Nat → Nat} (hp : R.Pairwise (fun a b => f a < f b)) (e : R = dn ++ s :: rs) (j : Nat) : j ∈ rs ↔ j ∈ R ∧ f s < f j := by
  rw [e] at hp ⊢
  obtain ⟨h1, h2, h3⟩ := List.pairwise_append.mp hp
  obtain ⟨h4, h5⟩ := List.pairwise_cons.mp h2
  constructor
  · intro h
    exact ⟨List.mem_append_right _ (List.mem_cons_of_mem _ h), h4 j h⟩
  · rintro ⟨h6, h7⟩
    rcases List.mem_append.mp h6 with h8 | h8
    · have := h3 j h8 s List.mem_cons_self
      omega
    · rcases List.mem_cons.mp h8 with h9 | h9
      · rw [h9] at h7; omega
      · exact h9
/-- an array holds a list -/
def hj_hd (a : Nat → Int32) (l : List Nat) : Prop := ∀ k v, l[k]? = some v → a k = nI v
theorem hj_hd_s {a : Nat → Int32} {l : List Nat} (h : hj_hd a l) (v : Nat) : hj_hd (upd a l.length (nI v)) (l ++ [v]) := by
  intro k w hk
  by_cases e : k = l.length
  · rw [e, List.getElem?_concat_length] at hk
    rw [e, pk_us, Option.some.inj hk]
  · rw [pk_un e]
    have h1 : k < (l ++ [v]).length := (List.getElem?_eq_some_iff.mp hk).1
    rw [List.length_append, List.length_singleton] at h1
    rw [List.getElem?_append_left (by omega)] at hk
    exact h k w hk
theorem hj_mid {l dn rs : List Nat} {v : Nat} (e : l = dn ++ v :: rs) : l[dn.length]? = some v := by
  rw [e, List.getElem?_append_right (Nat.le_refl _), Nat.sub_self]
  rfl
/-- the orders' arrays hold the lists ol -/
def hj_ho (T : Nat) (wr od os : Nat → Int32) (ol : Nat → List Nat) : Prop :=
  ∀ x, x < 4 → os x = nI (ol x).length ∧ (∀ k v, (ol x)[k]? = some v → od (x * 4 + k) = nI v) ∧ (ol x).Nodup ∧ ∀ v, v ∈ ol x → v < T ∧ hj_wt wr v x = true
theorem hj_ho4 {T : Nat} {wr od os : Nat → Int32} {ol : Nat → List Nat} (H : hj_ho T wr od os ol) (hT : T ≤ 4) {x : Nat} (hx : x < 4) : (ol x).length ≤ 4 := by
  have := hj_nd4 (H x hx).2.2.1 fun v hv => ((H x hx).2.2.2 v hv).1
  omega
end
section
/-! the reference's walks, first part: in, rank, keepsRankings, keepsSources -/
theorem hj_wt_f {wr : Nat → Int32} {i x : Nat} (h : hj_wt wr i x = false) : wr (i * 4 + x) ≤ 0 := by
  apply Classical.byContradiction
  intro h2
  rw [hj_wt, decide_eq_true h2] at h
  exact absurd h (by decide)
theorem hj_wt_t {wr : Nat → Int32} {i x : Nat} (h : hj_wt wr i x = true) : ¬ wr (i * 4 + x) ≤ 0 := of_decide_eq_true h
def hj_sc (sw : Nat → Int32) (c k : Nat) : Bool := decide (¬ sw (c * 9 + k) = 0)
theorem hj_sc_z {sw : Nat → Int32} {c k : Nat} : sw (c * 9 + k) = 0 ↔ hj_sc sw c k = false := by
  rw [hj_sc, decide_eq_false_iff_not, Classical.not_not]
theorem hj_swc {sw : Nat → Int32} {i x k : Nat} : hj_sw sw i x k = hj_sc sw (i * 4 + x) k := rfl
theorem hj_c144 {k : Nat} (h : k < 144) : (nI k).toNatClampNeg = k := nI_clamp (by omega)
theorem hj_v144 {k : Nat} (h : k < 144) : vp_in (nI k) 144 := vp_in_nI h (by omega)
theorem hj_x1 (c j : Nat) : nI c * 9 + 2 * nI j + 1 = nI (c * 9 + (2 * j + 1)) := by
  rw [hj_2j, hj_i9, nI_1, Nat.add_assoc]
theorem hj_x2 (c j : Nat) : nI c * 9 + 2 * nI j + 2 = nI (c * 9 + (2 * j + 2)) := by
  rw [hj_2j, hj_i9, hj_p2, Nat.add_assoc]
theorem hj_xv (c j v : Nat) : nI c * 9 + 2 * nI j + nI v = nI (c * 9 + (2 * j + v)) := by
  rw [hj_2j, hj_i9, nI_add, Nat.add_assoc]
theorem hj_andI (a b : Bool) : (a && b) = true ↔ a = true ∧ b = true := Bool.and_eq_true a b ▸ Iff.rfl
section
variable {T K n : Nat} {st wr sw od os lj : Nat → Int32} {d : Nat → Nat} {ol : Nat → List Nat} {post : Int32 → Prop}
theorem hj_yin {i : Nat} (hi : i < 4) (h : post (hj_b (hj_cm st i))) : wpY_in post (nI T, nI K, st, wr, sw, od, os, lj) (nI i) := by
  unfold wpY_in
  dsimp only
  rw [hj_c4 hi]
  refine ⟨hj_v4 hi, ?_⟩
  by_cases e : st i = 1
  · rw [hj_cm, decide_eq_true e] at h
    exact br_t e h
  · rw [hj_cm, decide_eq_false e] at h
    exact br_f e h
theorem hj_yr2 {x i : Nat} {l : List Nat} (hx : x < 4) (hi : i < 4) (ho : os x = nI l.length) (hod : ∀ k v, l[k]? = some v → od (x * 4 + k) = nI v) (h4 : l.length ≤ 4) (hv : ∀ v, v ∈ l → v < 4) : ∀ (rs dn : List Nat), l = dn ++ rs → post (nI (hj_ps i rs dn.length)) → ∀ m, rs.length < m → wY_rank_2 post (nI x) (nI i) (nI T) (nI K) st wr sw od os lj m (nI dn.length) := by
  intro rs
  induction rs with
  | nil =>
    intro dn e h n hn
    obtain ⟨m, rfl⟩ : ∃ m, n = m + 1 := ⟨n - 1, by omega⟩
    have hl : l.length = dn.length := by rw [e, List.append_nil]
    simp only [wY_rank_2]
    rw [hj_c4 hx, ho, hl]
    refine ⟨hj_v4 hx, br_t (Int32.le_refl _) ?_⟩
    rw [show (4 : Int32) + nI i = nI (4 + i) from nI_add 4 i]
    exact h
  | cons v rs ih =>
    intro dn e h n hn
    obtain ⟨m, rfl⟩ : ∃ m, n = m + 1 := ⟨n - 1, by omega⟩
    have hl : l.length = dn.length + (rs.length + 1) := by rw [e, List.length_append, List.length_cons]
    have hvm : v < 4 := hv v (by rw [e]; exact List.mem_append_right _ List.mem_cons_self)
    have hlk := hod dn.length v (hj_mid e)
    simp only [wY_rank_2]
    rw [hj_c4 hx, ho, hj_i4c hx (by omega), hlk]
    refine ⟨hj_v4 hx, br_f (nI_ge (by omega) (by omega)) (br_f (nI_ge (b := 4) (by omega) (by decide)) ⟨hj_i4v hx (by omega), ?_⟩)⟩
    by_cases hvi : v = i
    · rw [hj_ps, if_pos hvi] at h
      exact br_t (by rw [hvi]) h
    · rw [hj_ps, if_neg hvi] at h
      refine br_f (fun e2 => hvi ((nI_eq (by omega) (by omega)).mp e2)) (nm_r (nI_1 _) ?_)
      have h5 := ih (dn ++ [v]) (by rw [e, List.append_assoc]; rfl) (by rw [List.length_append, List.length_singleton]; exact h) m (by rw [List.length_cons] at hn; omega)
      rw [List.length_append, List.length_singleton] at h5
      exact h5
theorem hj_yrk (HO : hj_ho T wr od os ol) (hT : T ≤ 4) {x i : Nat} (hx : x < 4) (hi : i < 4) (h : post (nI (hj_rf ol x i))) : wpY_rank post (nI T, nI K, st, wr, sw, od, os, lj) (nI x) (nI i) := by
  obtain ⟨h1, h2, h3, h4⟩ := HO x hx
  exact ⟨(ol x).length + 1, hj_yr2 hx hi h1 h2 (hj_ho4 HO hT hx) (fun v hv => by have := (h4 v hv).1; omega) (ol x) [] rfl h _ (by omega)⟩
theorem hj_rf8 (HO : hj_ho T wr od os ol) (hT : T ≤ 4) {x i : Nat} (hx : x < 4) (hi : i < 4) : hj_rf ol x i < 8 := by
  have h4 := hj_ho4 HO hT hx
  by_cases h : i ∈ ol x
  · have := hj_ps_in (ol x) 0 h
    unfold hj_rf; omega
  · unfold hj_rf; rw [hj_ps_out (ol x) 0 h]; omega
def hj_lo (wt : Nat → Nat → Bool) (rk : Nat → Nat → Nat) (d : Nat → Nat) (x b a : Nat) : Bool := !(wt (d b) x && wt (d a) x) || decide (rk x (d a) < rk x (d b))
theorem hj_ylast (HO : hj_ho T wr od os ol) (hT : T ≤ 4) (hl : ∀ k, k < n → lj k = nI (d k)) (hd : ∀ k, d k < 4) (hn : n ≤ 4) {x b : Nat} (hx : x < 4) (hb : b < n) (h : post (hj_b (hj_al b (hj_lo (hj_wt wr) (hj_rf ol) d x b)))) : wpY_lastOk post (nI T, nI K, st, wr, sw, od, os, lj) (nI x) (nI b) := by
  unfold wpY_lastOk
  dsimp only
  rw [hj_c4 (k := b) (by omega), hl b hb]
  refine ⟨hj_v4 (by omega), hj_yrk HO hT hx (hd b) ?_⟩
  cases hw : hj_wt wr (d b) x with
  | false =>
    have e : hj_al b (hj_lo (hj_wt wr) (hj_rf ol) d x b) = true := by
      rw [hj_al_iff]; intro i _; unfold hj_lo; rw [hw]; rfl
    rw [e] at h
    refine ⟨1, ?_⟩
    simp only [wY_lastOk_18]
    rcases Nat.eq_zero_or_pos b with h0 | h0
    · rw [h0]
      exact br_t (Int32.le_refl _) ⟨hj_bn true, h⟩
    · rw [hj_c4 (k := b) (by omega), hl b hb, hj_i4c (hd b) hx]
      exact br_f (nI_nle h0 (by omega)) ⟨hj_v4 (by omega), hj_i4v (hd b) hx, br_t (hj_wt_f hw) ⟨hj_bn true, h⟩⟩
  | true =>
    refine hj_lpe (P := fun m k => wY_lastOk_18 post (nI x) (nI b) (nI (hj_rf ol x (d b))) (nI T) (nI K) st wr sw od os lj m (hj_b (hj_al k (hj_lo (hj_wt wr) (hj_rf ol) d x b))) (nI k)) b (fun m => ?_) (fun m k hk ih => ?_) 0 (Nat.zero_le _)
    · simp only [wY_lastOk_18]
      exact br_t (Int32.le_refl _) ⟨hj_bn _, h⟩
    · try dsimp only at ih
      have es : hj_al (k + 1) (hj_lo (hj_wt wr) (hj_rf ol) d x b) = (hj_al k (hj_lo (hj_wt wr) (hj_rf ol) d x b) && hj_lo (hj_wt wr) (hj_rf ol) d x b k) := rfl
      simp only [wY_lastOk_18]
      rw [hj_c4 (k := b) (by omega), hj_c4 (k := k) (by omega), hl b hb, hl k (by omega), hj_i4c (hd b) hx, hj_i4c (hd k) hx]
      refine br_f (nI_ge hk (by omega)) ⟨hj_v4 (by omega), hj_i4v (hd b) hx, br_f (hj_wt_t hw) ⟨hj_v4 (by omega), hj_i4v (hd k) hx, ?_⟩⟩
      cases hw2 : hj_wt wr (d k) x with
      | false =>
        refine br_t (hj_wt_f hw2) (nm_r (nI_1 k) ?_)
        have e2 : hj_lo (hj_wt wr) (hj_rf ol) d x b k = true := by unfold hj_lo; rw [hw2, Bool.and_false]; rfl
        rw [es, e2, Bool.and_true] at ih
        exact ih
      | true =>
        refine br_f (hj_wt_t hw2) ⟨hj_v4 (by omega), hj_yrk HO hT hx (hd k) ?_⟩
        have e2 : hj_lo (hj_wt wr) (hj_rf ol) d x b k = decide (hj_rf ol x (d k) < hj_rf ol x (d b)) := by unfold hj_lo; rw [hw2, hw]; rfl
        rw [es, e2] at ih
        have r1 := hj_rf8 HO hT hx (hd b)
        have r2 := hj_rf8 HO hT hx (hd k)
        refine hj_bz (fun h0 => nm_r (nI_1 k) ?_) (fun h1 => ?_)
        · rw [h0, Bool.false_and] at ih
          exact ih
        · rw [h1, Bool.true_and] at ih
          refine pk_le (hj_rf ol x (d b)) (hj_rf ol x (d k)) (fun h2 => nm_r (nI_1 k) ?_) (fun h2 => nm_r (nI_1 k) ?_)
          · rw [decide_eq_false (by omega)] at ih
            exact ih
          · rw [decide_eq_true h2] at ih
            exact ih
theorem hj_ykr (HO : hj_ho T wr od os ol) (hT : T ≤ 4) (hK : K ≤ 4) (hl : ∀ k, k < n → lj k = nI (d k)) (hd : ∀ k, d k < 4) (hn : n ≤ 4) (h : post (hj_b (hj_KR K n (hj_wt wr) (hj_rf ol) d))) : wpY_keepsRankings post (nI T, nI K, st, wr, sw, od, os, lj) (nI n) := by
  refine hj_lpe (P := fun m x => wY_keepsRankings_4 post (nI n) (nI T) (nI K) st wr sw od os lj m (hj_b (hj_al x fun x => hj_al n fun b => hj_al b (hj_lo (hj_wt wr) (hj_rf ol) d x b))) (nI x)) K (fun m => ?_) (fun m x hx ih => ?_) 0 (Nat.zero_le _)
  · simp only [wY_keepsRankings_4]
    exact br_t (Int32.le_refl _) ⟨hj_bn _, h⟩
  · try dsimp only at ih
    have es : ∀ F : Nat → Bool, hj_al (x + 1) F = (hj_al x F && F x) := fun _ => rfl
    rw [es] at ih
    simp only [wY_keepsRankings_4]
    refine br_f (nI_ge hx (by omega)) ?_
    generalize hA : (hj_al x fun x => hj_al n fun b => hj_al b (hj_lo (hj_wt wr) (hj_rf ol) d x b)) = A at ih ⊢
    have hz : hj_b A = hj_b (A && hj_al 0 fun b => hj_al b (hj_lo (hj_wt wr) (hj_rf ol) d x b)) := by
      show _ = hj_b (A && true); rw [Bool.and_true]
    rw [hz]
    refine hj_lpe (P := fun q b => wY_keepsRankings_15 post (wY_keepsRankings_4 post (nI n) (nI T) (nI K) st wr sw od os lj m) (nI n) (nI x) (nI T) (nI K) st wr sw od os lj q (hj_b (A && hj_al b fun b => hj_al b (hj_lo (hj_wt wr) (hj_rf ol) d x b))) (nI b)) n (fun q => ?_) (fun q b hb ih2 => ?_) 0 (Nat.zero_le _)
    · simp only [wY_keepsRankings_15]
      exact br_t (Int32.le_refl _) (nm_r (nI_1 x) ih)
    · try dsimp only at ih2
      have es2 : ∀ F : Nat → Bool, hj_al (b + 1) F = (hj_al b F && F b) := fun _ => rfl
      rw [es2, ← Bool.and_assoc] at ih2
      simp only [wY_keepsRankings_15]
      refine br_f (nI_ge hb (by omega)) (hj_bz (fun h0 => nm_r (nI_1 b) ?_) (fun h1 => ?_))
      · rw [h0, Bool.false_and] at ih2
        exact ih2
      · rw [h1, Bool.true_and] at ih2
        refine hj_ylast HO hT hl hd hn (by omega) hb (hj_bz (fun h0 => nm_r (nI_1 b) ?_) (fun h2 => nm_r (nI_1 b) ?_))
        · rw [h0] at ih2; exact ih2
        · rw [h2] at ih2; exact ih2
theorem hj_ysa {i j : Nat} (hi : i < 4) (hj : j < 4) (h : post (hj_b (hj_sy (hj_sw sw) i j))) : wpY_sawAny post (nI T, nI K, st, wr, sw, od, os, lj) (nI i) (nI j) := by
  refine hj_lpe (P := fun m x => wY_sawAny_5 post (nI i) (nI j) (nI T) (nI K) st wr sw od os lj m (hj_b (hj_an x fun x => hj_sa (hj_sw sw) i x j)) (nI x)) 4 (fun m => ?_) (fun m x hx ih => ?_) 0 (Nat.zero_le _)
  · simp only [wY_sawAny_5]
    exact br_t (Int32.le_refl _) ⟨hj_bn _, h⟩
  · try dsimp only at ih
    have es : ∀ F : Nat → Bool, hj_an (x + 1) F = (hj_an x F || F x) := fun _ => rfl
    rw [es] at ih
    simp only [wY_sawAny_5]
    rw [hj_i4, hj_x1, hj_x2, hj_c144 (by omega), hj_c144 (by omega)]
    refine br_f (nI_ge (b := 4) hx (by decide)) (hj_bz (fun h0 => ⟨hj_v144 (by omega), hj_ifn hj_sc_z (fun h1 => ⟨hj_v144 (by omega), hj_ifn hj_sc_z (fun h2 => nm_r (nI_1 x) ?_) (fun h2 => nm_r (nI_1 x) ?_)⟩) (fun h1 => nm_r (nI_1 x) ?_)⟩) (fun h1 => nm_r (nI_1 x) ?_))
    · rw [h0, Bool.false_or, hj_sa, hj_swc, hj_swc, h1, h2] at ih; exact ih
    · rw [h0, Bool.false_or, hj_sa, hj_swc, hj_swc, h1, h2] at ih; exact ih
    · rw [h0, Bool.false_or, hj_sa, hj_swc, hj_swc, h1, Bool.true_or] at ih; exact ih
    · rw [h1, Bool.true_or] at ih; exact ih
theorem hj_yks (hl : ∀ k, k < n → lj k = nI (d k)) (hd : ∀ k, d k < 4) (hn : n ≤ 4) (h : post (hj_b (hj_KS n (hj_sw sw) d))) : wpY_keepsSources post (nI T, nI K, st, wr, sw, od, os, lj) (nI n) := by
  refine hj_lpe (P := fun m b => wY_keepsSources_4 post (nI n) (nI T) (nI K) st wr sw od os lj m (hj_b (hj_al b fun b => hj_al b fun a => !hj_sy (hj_sw sw) (d a) (d b))) (nI b)) n (fun m => ?_) (fun m b hb ih => ?_) 0 (Nat.zero_le _)
  · simp only [wY_keepsSources_4]
    exact br_t (Int32.le_refl _) ⟨hj_bn _, h⟩
  · try dsimp only at ih
    have es : ∀ F : Nat → Bool, hj_al (b + 1) F = (hj_al b F && F b) := fun _ => rfl
    rw [es] at ih
    simp only [wY_keepsSources_4]
    refine br_f (nI_ge hb (by omega)) ?_
    generalize hA : (hj_al b fun b => hj_al b fun a => !hj_sy (hj_sw sw) (d a) (d b)) = A at ih ⊢
    have hz : hj_b A = hj_b (A && hj_al 0 fun a => !hj_sy (hj_sw sw) (d a) (d b)) := by
      show _ = hj_b (A && true); rw [Bool.and_true]
    rw [hz]
    refine hj_lpe (P := fun q a => wY_keepsSources_12 post (wY_keepsSources_4 post (nI n) (nI T) (nI K) st wr sw od os lj m) (nI n) (nI b) (nI T) (nI K) st wr sw od os lj q (hj_b (A && hj_al a fun a => !hj_sy (hj_sw sw) (d a) (d b))) (nI a)) b (fun q => ?_) (fun q a ha ih2 => ?_) 0 (Nat.zero_le _)
    · simp only [wY_keepsSources_12]
      exact br_t (Int32.le_refl _) (nm_r (nI_1 b) ih)
    · try dsimp only at ih2
      have es2 : ∀ F : Nat → Bool, hj_al (a + 1) F = (hj_al a F && F a) := fun _ => rfl
      rw [es2, ← Bool.and_assoc] at ih2
      simp only [wY_keepsSources_12]
      rw [hj_c4 (k := a) (by omega), hj_c4 (k := b) (by omega), hl a (by omega), hl b hb]
      refine br_f (nI_ge ha (by omega)) (hj_bz (fun h0 => nm_r (nI_1 a) ?_) (fun h1 => ?_))
      · rw [h0, Bool.false_and] at ih2
        exact ih2
      · rw [h1, Bool.true_and] at ih2
        refine ⟨hj_v4 (by omega), hj_v4 (by omega), hj_ysa (hd a) (hd b) (hj_bz (fun h0 => nm_r (nI_1 a) ?_) (fun h2 => nm_r (nI_1 a) ?_))⟩
        · rw [h0] at ih2; exact ih2
        · rw [h2] at ih2; exact ih2
end
end
section
/-! the reference's walks, second part: readsOnly, readsAt, share, startsAt, canStart, keepsReads -/
def hj_oi : Option Nat → Int32
  | none => -1
  | some j => nI j
section
variable {T K n : Nat} {st wr sw od os lj : Nat → Int32} {d : Nat → Nat} {post : Int32 → Prop}
theorem hj_yro5 {J : Int32 → Int32 → Prop} {x3 : Int32} {A r : Bool} {c k : Nat} (hc : c < 16) (hk : k < 9) (h : J (hj_b (A && (!hj_sc sw c k || r))) (nI (k + 1))) : wY_readsOnly_65 post J x3 (hj_b A) (nI (c * 9)) (nI k) (hj_b r) (nI T) (nI K) st wr sw od os lj := by
  unfold wY_readsOnly_65
  rw [nI_add, hj_c144 (by omega)]
  refine hj_bz (fun h0 => nm_r (nI_1 k) ?_) (fun h0 => ⟨hj_v144 (by omega), hj_ifn hj_sc_z (fun h1 => nm_r (nI_1 k) ?_) (fun h1 => hj_bz (fun h2 => nm_r (nI_1 k) ?_) (fun h2 => nm_r (nI_1 k) ?_))⟩)
  · rw [h0, Bool.false_and] at h; exact h
  · rw [h0, h1, Bool.not_false, Bool.true_or, Bool.true_and] at h; exact h
  · rw [h0, h1, h2] at h; exact h
  · rw [h0, h2, Bool.or_true, Bool.true_and] at h; exact h
theorem hj_yro {i x : Nat} {o : Option Nat} (hi : i < 4) (hx : x < 4) (ho : ∀ j, o = some j → j < 4) (h : post (hj_b (hj_ro (hj_sw sw) i x o))) : wpY_readsOnly post (nI T, nI K, st, wr, sw, od, os, lj) (nI i) (nI x) (hj_oi o) := by
  unfold wpY_readsOnly
  dsimp only
  refine nm_r (hj_s9 i x) ?_
  refine hj_lpe (P := fun m k => wY_readsOnly_16 post (hj_oi o) (nI ((i * 4 + x) * 9)) (nI T) (nI K) st wr sw od os lj m (hj_b (hj_al k fun k => !hj_sw sw i x k || hj_rt o k)) (nI k)) 9 (fun m => ?_) (fun m k hk ih => ?_) 0 (Nat.zero_le _)
  · simp only [wY_readsOnly_16]
    exact br_t (Int32.le_refl _) ⟨hj_bn _, h⟩
  · try dsimp only at ih
    have es : ∀ F : Nat → Bool, hj_al (k + 1) F = (hj_al k F && F k) := fun _ => rfl
    rw [es] at ih
    simp only [wY_readsOnly_16]
    refine br_f (nI_ge (b := 9) hk (by decide)) ?_
    cases o with
    | none =>
      refine br_f (by decide) ?_
      by_cases e : k = 0
      · refine br_t (by rw [e]; rfl) (hj_yro5 (r := true) (by omega) hk ?_)
        have e2 : hj_rt none k = true := by rw [e]; rfl
        rw [e2] at ih; exact ih
      · refine br_f (nI_ne0 (by omega) (by omega)) (hj_yro5 (r := false) (by omega) hk ?_)
        have e2 : hj_rt none k = false := by show (k == 0) = false; rw [beq_eq_false_iff_ne]; exact e
        rw [e2] at ih; exact ih
    | some j =>
      have hj := ho j rfl
      have h2 : ∀ r : Bool, hj_rt (some j) k = r → wY_readsOnly_65 post (wY_readsOnly_16 post (hj_oi (some j)) (nI ((i * 4 + x) * 9)) (nI T) (nI K) st wr sw od os lj m) (hj_oi (some j)) (hj_b (hj_al k fun k => !hj_sw sw i x k || hj_rt (some j) k)) (nI ((i * 4 + x) * 9)) (nI k) (hj_b r) (nI T) (nI K) st wr sw od os lj := by
        intro r hr
        refine hj_yro5 (by omega) hk ?_
        rw [hr] at ih; exact ih
      have e1 : 2 * hj_oi (some j) + 1 = nI (2 * j + 1) := by show 2 * nI j + 1 = _; rw [hj_2j, nI_1]
      have e2 : 2 * hj_oi (some j) + 2 = nI (2 * j + 2) := by show 2 * nI j + 2 = _; rw [hj_2j, hj_p2]
      rw [e1, e2]
      refine br_t (nI_pos' (by omega)) (pk_eq k (2 * j + 1) (fun h3 => ?_) (fun h3 => pk_eq k (2 * j + 2) (fun h4 => ?_) (fun h4 => ?_)))
      · exact h2 true (by show (k == 2 * j + 1 || k == 2 * j + 2) = true; rw [Bool.or_eq_true, beq_iff_eq]; exact Or.inl h3)
      · exact h2 true (by show (k == 2 * j + 1 || k == 2 * j + 2) = true; rw [Bool.or_eq_true, beq_iff_eq, beq_iff_eq]; exact Or.inr h4)
      · exact h2 false (by show (k == 2 * j + 1 || k == 2 * j + 2) = false; rw [Bool.or_eq_false_iff, beq_eq_false_iff_ne, beq_eq_false_iff_ne]; exact ⟨h3, h4⟩)
theorem hj_lw4 {wt : Nat → Nat → Bool} (hd : ∀ k, d k < 4) {i x : Nat} : ∀ {g j : Nat}, hj_lw wt d i x g = some j → j < 4 := by
  intro g j h
  obtain ⟨a, _, h2, _⟩ := hj_lw_s h
  rw [← h2]; exact hd a
theorem hj_yra (hK : K ≤ 4) (hl : ∀ k, k < n → lj k = nI (d k)) (hd : ∀ k, d k < 4) (hn : n ≤ 4) {i g : Nat} (hi : i < 4) (hg : g ≤ n) (h : post (hj_b (hj_ra K (hj_wt wr) (hj_sw sw) d i g))) : wpY_readsAt post (nI T, nI K, st, wr, sw, od, os, lj) (nI i) (nI g) := by
  refine hj_lpe (P := fun m x => wY_readsAt_5 post (nI i) (nI g) (nI T) (nI K) st wr sw od os lj m (hj_b (hj_al x fun x => hj_ro (hj_sw sw) i x (hj_lw (hj_wt wr) d i x g))) (nI x)) K (fun m => ?_) (fun m x hx ih => ?_) 0 (Nat.zero_le _)
  · simp only [wY_readsAt_5]
    exact br_t (Int32.le_refl _) ⟨hj_bn _, h⟩
  · try dsimp only at ih
    have es : ∀ F : Nat → Bool, hj_al (x + 1) F = (hj_al x F && F x) := fun _ => rfl
    rw [es] at ih
    simp only [wY_readsAt_5]
    refine br_f (nI_ge hx (by omega)) ?_
    generalize hA : (hj_al x fun x => hj_ro (hj_sw sw) i x (hj_lw (hj_wt wr) d i x g)) = A at ih ⊢
    refine hj_lpe (P := fun q a => wY_readsAt_20 post (wY_readsAt_5 post (nI i) (nI g) (nI T) (nI K) st wr sw od os lj m) (nI i) (nI g) (hj_b A) (nI x) (nI T) (nI K) st wr sw od os lj q (hj_oi (hj_lw (hj_wt wr) d i x a)) (nI a)) g (fun q => ?_) (fun q a ha ih2 => ?_) 0 (Nat.zero_le _)
    · simp only [wY_readsAt_20]
      refine br_t (Int32.le_refl _) (hj_bz (fun h0 => nm_r (nI_1 x) ?_) (fun h0 => ?_))
      · rw [h0, Bool.false_and] at ih; exact ih
      · rw [h0, Bool.true_and] at ih
        refine hj_yro hi (by omega) (fun j e => hj_lw4 hd e) (hj_bz (fun h1 => nm_r (nI_1 x) ?_) (fun h1 => nm_r (nI_1 x) ?_))
        · rw [h1] at ih; exact ih
        · rw [h1] at ih; exact ih
    · try dsimp only at ih2
      simp only [wY_readsAt_20]
      rw [hj_c4 (k := a) (by omega), hl a (by omega), hj_i4c (hd a) (by omega)]
      refine br_f (nI_ge ha (by omega)) ⟨hj_v4 (by omega), hj_i4v (hd a) (by omega), ?_⟩
      rw [hj_lw] at ih2
      cases hw : hj_wt wr (d a) x with
      | false =>
        refine br_t (hj_wt_f hw) (nm_r (nI_1 a) ?_)
        rw [hw, Bool.false_and, if_neg (by decide)] at ih2
        exact ih2
      | true =>
        have hda := hd a
        refine br_f (hj_wt_t hw) ⟨hj_v4 (by omega), pk_eq (d a) i (fun e => nm_r (nI_1 a) ?_) (fun e => ⟨hj_v4 (by omega), nm_e (nm_r (nI_1 a) ?_)⟩)⟩
        · rw [hw, e, Bool.true_and, if_neg (by simp)] at ih2
          exact ih2
        · rw [hw, Bool.true_and, if_pos (by rw [Bool.not_eq_true', beq_eq_false_iff_ne]; exact e)] at ih2
          exact ih2
theorem hj_ysh (hK : K ≤ 4) {i j : Nat} (hi : i < 4) (hj : j < 4) (h : post (hj_b (hj_sh K (hj_wt wr) i j))) : wpY_share post (nI T, nI K, st, wr, sw, od, os, lj) (nI i) (nI j) := by
  refine hj_lpe (P := fun m x => wY_share_5 post (nI i) (nI j) (nI T) (nI K) st wr sw od os lj m (hj_b (hj_an x fun x => hj_wt wr i x && hj_wt wr j x)) (nI x)) K (fun m => ?_) (fun m x hx ih => ?_) 0 (Nat.zero_le _)
  · simp only [wY_share_5]
    exact br_t (Int32.le_refl _) ⟨hj_bn _, h⟩
  · try dsimp only at ih
    have es : ∀ F : Nat → Bool, hj_an (x + 1) F = (hj_an x F || F x) := fun _ => rfl
    rw [es] at ih
    simp only [wY_share_5]
    rw [hj_i4c hi (k := x) (by omega), hj_i4c hj (k := x) (by omega)]
    refine br_f (nI_ge hx (by omega)) (hj_bz (fun h0 => ⟨hj_i4v hi (by omega), ?_⟩) (fun h0 => nm_r (nI_1 x) ?_))
    · rw [h0, Bool.false_or] at ih
      cases hw : hj_wt wr i x with
      | false =>
        refine br_t (hj_wt_f hw) (nm_r (nI_1 x) ?_)
        rw [hw] at ih; exact ih
      | true =>
        refine br_f (hj_wt_t hw) ⟨hj_i4v hj (by omega), ?_⟩
        cases hw2 : hj_wt wr j x with
        | false =>
          refine br_t (hj_wt_f hw2) (nm_r (nI_1 x) ?_)
          rw [hw, hw2] at ih; exact ih
        | true =>
          refine br_f (hj_wt_t hw2) (nm_r (nI_1 x) ?_)
          rw [hw, hw2] at ih; exact ih
    · rw [h0, Bool.true_or] at ih; exact ih
theorem hj_yst (hK : K ≤ 4) (hl : ∀ k, k < n → lj k = nI (d k)) (hd : ∀ k, d k < 4) (hn : n ≤ 4) {b g : Nat} (hb : b < n) (hg : g ≤ b) (h : post (hj_b (hj_st K (hj_wt wr) (hj_sw sw) d b g))) : wpY_startsAt post (nI T, nI K, st, wr, sw, od, os, lj) (nI b) (nI g) := by
  unfold wpY_startsAt
  dsimp only
  rw [hj_c4 (k := b) (by omega), hl b hb]
  refine ⟨hj_v4 (by omega), nm_e (hj_yra hK hl hd hn (hd b) (by omega) ?_)⟩
  rw [hj_st] at h
  generalize hA : hj_ra K (hj_wt wr) (hj_sw sw) d (d b) g = A at h ⊢
  have hz : hj_b A = hj_b (A && hj_al g fun a => decide (a < g) || !hj_sh K (hj_wt wr) (d a) (d b)) := by
    have e : (hj_al g fun a => decide (a < g) || !hj_sh K (hj_wt wr) (d a) (d b)) = true := by
      rw [hj_al_iff]; intro i hi; rw [decide_eq_true hi]; rfl
    rw [e, Bool.and_true]
  rw [hz]
  obtain ⟨m0, hm0⟩ := hj_lpe (P := fun m a => g ≤ a → wY_startsAt_18 post (nI b) (nI (d b)) (nI T) (nI K) st wr sw od os lj m (hj_b (A && hj_al a fun a => decide (a < g) || !hj_sh K (hj_wt wr) (d a) (d b))) (nI a)) b (fun m _ => by
    simp only [wY_startsAt_18]
    exact br_t (Int32.le_refl _) ⟨hj_bn _, h⟩) (fun m a ha ih hga => by
    have ih := ih (by omega)
    try dsimp only at ih
    have es : ∀ F : Nat → Bool, hj_al (a + 1) F = (hj_al a F && F a) := fun _ => rfl
    rw [es, ← Bool.and_assoc] at ih
    rw [decide_eq_false (show ¬ a < g by omega), Bool.false_or] at ih
    simp only [wY_startsAt_18]
    rw [hj_c4 (k := a) (by omega), hl a (by omega)]
    refine br_f (nI_ge ha (by omega)) (hj_bz (fun h0 => nm_r (nI_1 a) ?_) (fun h1 => ?_))
    · rw [h0, Bool.false_and] at ih; exact ih
    · rw [h1, Bool.true_and] at ih
      refine ⟨hj_v4 (by omega), hj_ysh hK (hd a) (hd b) (hj_bz (fun h0 => nm_r (nI_1 a) ?_) (fun h2 => nm_r (nI_1 a) ?_))⟩
      · rw [h0] at ih; exact ih
      · rw [h2] at ih; exact ih) g hg
  exact ⟨m0, hm0 (Nat.le_refl _)⟩
theorem hj_ycs (hK : K ≤ 4) (hl : ∀ k, k < n → lj k = nI (d k)) (hd : ∀ k, d k < 4) (hn : n ≤ 4) (h : post (hj_b (hj_CS K n (hj_wt wr) (hj_sw sw) d))) : wpY_canStart post (nI T, nI K, st, wr, sw, od, os, lj) (nI n) := by
  refine hj_lpe (P := fun m b => wY_canStart_4 post (nI n) (nI T) (nI K) st wr sw od os lj m (hj_b (hj_al b fun b => hj_an (b + 1) fun g => hj_st K (hj_wt wr) (hj_sw sw) d b g)) (nI b)) n (fun m => ?_) (fun m b hb ih => ?_) 0 (Nat.zero_le _)
  · simp only [wY_canStart_4]
    exact br_t (Int32.le_refl _) ⟨hj_bn _, h⟩
  · try dsimp only at ih
    have es : ∀ F : Nat → Bool, hj_al (b + 1) F = (hj_al b F && F b) := fun _ => rfl
    rw [es] at ih
    simp only [wY_canStart_4]
    refine br_f (nI_ge hb (by omega)) ?_
    generalize hA : (hj_al b fun b => hj_an (b + 1) fun g => hj_st K (hj_wt wr) (hj_sw sw) d b g) = A at ih ⊢
    refine hj_lpe (P := fun q g => wY_canStart_15 post (wY_canStart_4 post (nI n) (nI T) (nI K) st wr sw od os lj m) (nI n) (hj_b A) (nI b) (nI T) (nI K) st wr sw od os lj q (hj_b (hj_an g fun g => hj_st K (hj_wt wr) (hj_sw sw) d b g)) (nI g)) (b + 1) (fun q => ?_) (fun q g hg ih2 => ?_) 0 (Nat.zero_le _)
    · simp only [wY_canStart_15]
      refine br_t (nI_lt (by omega) (by omega)) (hj_bz (fun h0 => nm_r (nI_1 b) ?_) (fun h0 => hj_bz (fun h1 => nm_r (nI_1 b) ?_) (fun h1 => nm_r (nI_1 b) ?_)))
      · rw [h0, Bool.false_and] at ih; exact ih
      · rw [h0, h1] at ih; exact ih
      · rw [h0, h1] at ih; exact ih
    · try dsimp only at ih2
      have es2 : ∀ F : Nat → Bool, hj_an (g + 1) F = (hj_an g F || F g) := fun _ => rfl
      rw [es2] at ih2
      simp only [wY_canStart_15]
      refine br_f (nI_nlt (by omega) (by omega)) (hj_bz (fun h0 => ?_) (fun h0 => nm_r (nI_1 g) ?_))
      · rw [h0, Bool.false_or] at ih2
        refine hj_yst hK hl hd hn hb (by omega) (hj_bz (fun h1 => nm_r (nI_1 g) ?_) (fun h1 => nm_r (nI_1 g) ?_))
        · rw [h1] at ih2; exact ih2
        · rw [h1] at ih2; exact ih2
      · rw [h0, Bool.true_or] at ih2; exact ih2
theorem hj_ykd (hK : K ≤ 4) (hl : ∀ k, k < n → lj k = nI (d k)) (hd : ∀ k, d k < 4) (hn : n ≤ 4) (h : post (hj_b (hj_KD K n (hj_wt wr) (hj_sw sw) d))) : wpY_keepsReads post (nI T, nI K, st, wr, sw, od, os, lj) (nI n) := by
  refine hj_lpe (P := fun m b => wY_keepsReads_4 post (nI n) (nI T) (nI K) st wr sw od os lj m (hj_b (hj_al b fun b => hj_ra K (hj_wt wr) (hj_sw sw) d (d b) b)) (nI b)) n (fun m => ?_) (fun m b hb ih => ?_) 0 (Nat.zero_le _)
  · simp only [wY_keepsReads_4]
    exact br_t (Int32.le_refl _) ⟨hj_bn _, h⟩
  · try dsimp only at ih
    have es : ∀ F : Nat → Bool, hj_al (b + 1) F = (hj_al b F && F b) := fun _ => rfl
    rw [es] at ih
    simp only [wY_keepsReads_4]
    rw [hj_c4 (k := b) (by omega), hl b hb]
    refine br_f (nI_ge hb (by omega)) (hj_bz (fun h0 => nm_r (nI_1 b) ?_) (fun h1 => ?_))
    · rw [h0, Bool.false_and] at ih; exact ih
    · rw [h1, Bool.true_and] at ih
      refine ⟨hj_v4 (by omega), hj_yra hK hl hd hn (hd b) (by omega) (hj_bz (fun h0 => nm_r (nI_1 b) ?_) (fun h2 => nm_r (nI_1 b) ?_))⟩
      · rw [h0] at ih; exact ih
      · rw [h2] at ih; exact ih
end
end
section
/-! the reference's walks, third part: committed, clean, spell, find -/
def hj_yf (cm : Nat → Bool) (wr sw : Nat → Int32) (c j : Nat) : Bool :=
  !(cm (c / 4) && (hj_sc sw c (2 * j + 1) || hj_sc sw c (2 * j + 2))) || ((cm j && (!hj_sc sw c (2 * j + 1) || decide (wr (j * 4 + c % 4) = 1))) && (!hj_sc sw c (2 * j + 2) || decide (wr (j * 4 + c % 4) = 2)))
def hj_YC (cm : Nat → Bool) (wr sw : Nat → Int32) : Bool := hj_al 16 fun c => hj_al 4 fun j => hj_yf cm wr sw c j
theorem hj_dv4 {c : Nat} (h : c < 16) : nI c / 4 = nI (c / 4) := pk_div (d := 4) (by omega) (by omega) (by omega)
theorem hj_rm4 {c : Nat} (h : c < 16) : nI c - nI c / 4 * 4 = nI (c % 4) := pk_rem (d := 4) (by omega) (by omega) (by omega)
theorem hj_m1 (k : Nat) : nI k + (-1) = nI k - 1 := by rw [Int32.sub_eq_add_neg]
theorem hj_shn {n : Nat} (h : n ≤ 4) : (1 : Int32) <<< ((2 * nI n) &&& 31) = nI (4 ^ n) := by
  match n, h with
  | 0, _ => decide +kernel
  | 1, _ => decide +kernel
  | 2, _ => decide +kernel
  | 3, _ => decide +kernel
  | 4, _ => decide +kernel
theorem hj_and3 {c : Nat} (h : c < 256) : nI c &&& 3 = nI (c % 4) := pk_andN (by omega) 2 (by decide)
theorem hj_sh2 {c : Nat} (h : c < 256) : nI c >>> ((2 : Int32) &&& 31) = nI (c / 4) := pk_shrN (by omega) _ 2 (by decide)
theorem hj_p256 {n : Nat} (h : n ≤ 4) : 4 ^ n ≤ 256 := Nat.pow_le_pow_right (n := 4) (by decide) h
section
variable {T K : Nat} {st wr sw od os lj : Nat → Int32}
theorem hj_ycn {post : Int32 → Prop} (h : post (nI (hj_cn 4 (hj_cm st)))) : wpY_committed post (nI T, nI K, st, wr, sw, od, os, lj) := by
  refine hj_lpe (P := fun m k => wY_committed_4 post (nI T) (nI K) st wr sw od os lj m (nI (hj_cn k (hj_cm st))) (nI k)) 4 (fun m => ?_) (fun m k hk ih => ?_) 0 (Nat.zero_le _)
  · simp only [wY_committed_4]
    exact br_t (Int32.le_refl _) h
  · try dsimp only at ih
    have es : hj_cn (k + 1) (hj_cm st) = hj_cn k (hj_cm st) + cond (hj_cm st k) 1 0 := rfl
    rw [es] at ih
    simp only [wY_committed_4]
    refine br_f (nI_ge (b := 4) hk (by decide)) (hj_yin hk (hj_bz (fun h0 => nm_r (nI_add _ 0) (nm_r (nI_1 k) ?_)) (fun h0 => nm_r (nI_1 _) (nm_r (nI_1 k) ?_))))
    · rw [h0] at ih; exact ih
    · rw [h0] at ih; exact ih
theorem hj_yc8 {post : Int32 → Prop} {J4 J12 : Int32 → Int32 → Prop} {x2 : Int32} {j : Nat} {b : Bool} {w v : Int32} (hv : v = 0 ↔ b = false) (h : J12 (hj_b (!b || decide (w = 2))) (nI (j + 1))) : wY_clean_108 post J4 J12 x2 (nI j) v w (nI T) (nI K) st wr sw od os lj := by
  unfold wY_clean_108
  refine hj_ifn hv (fun h0 => nm_r (nI_1 j) ?_) (fun h0 => ?_)
  · rw [h0] at h; exact h
  · rw [h0, Bool.not_true, Bool.false_or] at h
    by_cases e : w = 2
    · refine br_t e (nm_r (nI_1 j) ?_)
      rw [decide_eq_true e] at h; exact h
    · refine br_f e (nm_r (nI_1 j) ?_)
      rw [decide_eq_false e] at h; exact h
theorem hj_yc71 {post : Int32 → Prop} {J4 J12 : Int32 → Int32 → Prop} {c j : Nat} {A a b : Bool} {va vb : Int32} (ha : va = 0 ↔ a = false) (hb : vb = 0 ↔ b = false) (hc : c < 16) (hj : j < 4) (h : J12 (hj_b (A && ((hj_cm st j && (!a || decide (wr (j * 4 + c % 4) = 1))) && (!b || decide (wr (j * 4 + c % 4) = 2))))) (nI (j + 1))) : wY_clean_71 post J4 J12 (hj_b A) (nI c) (nI j) va vb (nI T) (nI K) st wr sw od os lj := by
  unfold wY_clean_71
  rw [hj_rm4 hc, hj_i4c hj (by omega)]
  refine ⟨by decide, hj_i4v hj (by omega), nm_e (hj_bz (fun h0 => nm_r (nI_1 j) ?_) (fun h0 => hj_yin hj (hj_bz (fun h1 => nm_r (nI_1 j) ?_) (fun h1 => hj_ifn ha (fun h2 => hj_yc8 hb ?_) (fun h2 => ?_)))))⟩
  · rw [h0, Bool.false_and] at h; exact h
  · rw [h0, h1, Bool.false_and, Bool.false_and, Bool.and_false] at h; exact h
  · rw [h0, h1, h2, Bool.not_false, Bool.true_or, Bool.true_and, Bool.true_and, Bool.true_and] at h; exact h
  · rw [h0, h1, h2, Bool.not_true, Bool.false_or, Bool.true_and, Bool.true_and] at h
    by_cases e : wr (j * 4 + c % 4) = 1
    · refine br_t e (hj_yc8 hb ?_)
      rw [decide_eq_true e, Bool.true_and] at h; exact h
    · refine br_f e (nm_r (nI_1 j) ?_)
      rw [decide_eq_false e, Bool.false_and] at h; exact h
theorem hj_ycl {post : Int32 → Prop} (h : post (hj_b (hj_YC (hj_cm st) wr sw))) : wpY_clean post (nI T, nI K, st, wr, sw, od, os, lj) := by
  refine hj_lpe (P := fun m c => wY_clean_4 post (nI T) (nI K) st wr sw od os lj m (hj_b (hj_al c fun c => hj_al 4 fun j => hj_yf (hj_cm st) wr sw c j)) (nI c)) 16 (fun m => ?_) (fun m c hc ih => ?_) 0 (Nat.zero_le _)
  · simp only [wY_clean_4]
    exact br_t (Int32.le_refl _) ⟨hj_bn _, h⟩
  · try dsimp only at ih
    have es : ∀ F : Nat → Bool, hj_al (c + 1) F = (hj_al c F && F c) := fun _ => rfl
    rw [es] at ih
    simp only [wY_clean_4]
    refine br_f (nI_ge (b := 16) hc (by decide)) ?_
    generalize hA : (hj_al c fun c => hj_al 4 fun j => hj_yf (hj_cm st) wr sw c j) = A at ih ⊢
    have hz : hj_b A = hj_b (A && hj_al 0 fun j => hj_yf (hj_cm st) wr sw c j) := by
      show _ = hj_b (A && true); rw [Bool.and_true]
    rw [hz]
    refine hj_lpe (P := fun q j => wY_clean_12 post (wY_clean_4 post (nI T) (nI K) st wr sw od os lj m) (nI c) (nI T) (nI K) st wr sw od os lj q (hj_b (A && hj_al j fun j => hj_yf (hj_cm st) wr sw c j)) (nI j)) 4 (fun q => ?_) (fun q j hj ih2 => ?_) 0 (Nat.zero_le _)
    · simp only [wY_clean_12]
      exact br_t (Int32.le_refl _) (nm_r (nI_1 c) ih)
    · try dsimp only at ih2
      have es2 : ∀ F : Nat → Bool, hj_al (j + 1) F = (hj_al j F && F j) := fun _ => rfl
      rw [es2, ← Bool.and_assoc] at ih2
      generalize hB : (A && hj_al j fun j => hj_yf (hj_cm st) wr sw c j) = B at ih2 ⊢
      have key : (hj_sc sw c (2 * j + 1) || hj_sc sw c (2 * j + 2)) = true → hj_cm st (c / 4) = true → wY_clean_71 post (wY_clean_4 post (nI T) (nI K) st wr sw od os lj m) (wY_clean_12 post (wY_clean_4 post (nI T) (nI K) st wr sw od os lj m) (nI c) (nI T) (nI K) st wr sw od os lj q) (hj_b B) (nI c) (nI j) (sw (c * 9 + (2 * j + 1))) (sw (c * 9 + (2 * j + 2))) (nI T) (nI K) st wr sw od os lj := by
        intro h1 h2
        refine hj_yc71 hj_sc_z hj_sc_z hc hj ?_
        rw [hj_yf, h2, h1, Bool.true_and, Bool.not_true, Bool.false_or] at ih2
        exact ih2
      simp only [wY_clean_12]
      rw [hj_x1, hj_x2, hj_c144 (by omega), hj_c144 (by omega), hj_dv4 hc]
      refine br_f (nI_ge (b := 4) hj (by decide)) ⟨hj_v144 (by omega), nm_e ⟨hj_v144 (by omega), nm_e ⟨by decide, hj_yin (by omega) (hj_bz (fun h0 => nm_r (nI_1 j) ?_) (fun h0 => ?_))⟩⟩⟩
      · rw [hj_yf, h0, Bool.false_and, Bool.not_false, Bool.true_or, Bool.and_true] at ih2; exact ih2
      · refine hj_ifn hj_sc_z (fun h1 => hj_ifn hj_sc_z (fun h2 => nm_r (nI_1 j) ?_) (fun h2 => key (by rw [h2, Bool.or_true]) h0)) (fun h1 => key (by rw [h1, Bool.true_or]) h0)
        rw [hj_yf, h0, h1, h2, Bool.or_false, Bool.and_false, Bool.not_false, Bool.true_or, Bool.and_true] at ih2; exact ih2
theorem hj_and3i {k : Nat} (h : k < 4) : nI k &&& 3 = nI k := by
  rw [hj_and3 (by omega), Nat.mod_eq_of_lt h]
theorem hj_ysp {post : Int32 → SY → Prop} : ∀ (m c : Nat) (p : Nat → Bool) (A : Bool) (lj : Nat → Int32) (q : Nat), m ≤ 4 → c < 256 → m < q →
    (∀ lj', (∀ k, k < m → lj' k = nI (hj_dg m c k)) → (∀ k, m ≤ k → lj' k = lj k) → post (hj_b (A && hj_sp (hj_cm st) m c p)) (nI T, nI K, st, wr, sw, od, os, lj')) →
    wY_spell_13 post (nI T) (nI K) q (nI c) (hj_mk p) (hj_b A) (nI m - 1) st wr sw od os lj := by
  intro m
  induction m with
  | zero =>
    intro c p A lj q _ _ hq h
    obtain ⟨q, rfl⟩ : ∃ r, q = r + 1 := ⟨q - 1, by omega⟩
    simp only [wY_spell_13]
    refine br_t (by decide) ⟨hj_bn _, ?_⟩
    have h2 := h lj (fun k hk => absurd hk (Nat.not_lt_zero k)) (fun _ _ => rfl)
    rw [hj_sp, Bool.and_true] at h2
    exact h2
  | succ m ih =>
    intro c p A lj q hm hc hq h
    obtain ⟨q, rfl⟩ : ∃ r, q = r + 1 := ⟨q - 1, by omega⟩
    have hc4 : c % 4 < 4 := by omega
    have key : ∀ r : Bool, (A && (hj_cm st (c % 4) && !p (c % 4))) = r → wY_spell_56 post (wY_spell_13 post (nI T) (nI K) q) (nI (c / 4)) (hj_mk p) (nI m) (nI (c % 4)) (hj_b r) (nI T) (nI K) st wr sw od os lj := by
      intro r hr
      unfold wY_spell_56
      rw [hj_and3i (by omega), hj_c4 (k := m) (by omega)]
      refine nm_r (e' := hj_mk fun i => p i || i == c % 4) (by rw [hj_one hc4, hj_or]) ⟨hj_v4 (by omega), nm_e (nm_r (hj_m1 m) ?_)⟩
      refine ih (c / 4) _ r _ q (by omega) (by omega) (by omega) fun lj' h1 h2 => ?_
      have h3 := h lj' (fun k hk => by
        by_cases e : k = m
        · rw [e, hj_dg_s, h2 m (Nat.le_refl _), pk_us]
        · rw [hj_dg_n c e]; exact h1 k (by omega)) (fun k hk => by
        rw [h2 k (by omega), pk_un (by omega)])
      rw [hj_sp, ← Bool.and_assoc, hr] at h3
      exact h3
    simp only [wY_spell_13]
    rw [nI_pred]
    refine br_f (nI_pos (by omega)) (nm_r (hj_and3 hc) (nm_r (hj_sh2 hc) (hj_bz (fun h0 => ?_) (fun h0 => hj_yin hc4 (hj_bz (fun h1 => ?_) (fun h1 => hj_ifn (hj_bit p hc4) (fun h2 => ?_) (fun h2 => ?_)))))))
    · exact key false (by rw [h0]; rfl)
    · exact key false (by rw [h1, Bool.false_and, Bool.and_false])
    · exact key true (by rw [h0, h1, h2]; rfl)
    · exact key false (by rw [h2, Bool.not_true, Bool.and_false, Bool.and_false])
end
end
section
/-! the reference's walks, fourth part: find -/
def hj_yo (n : Nat) (gd : Nat → Bool) (r : Bool) (lj : Nat → Int32) : Prop :=
  (r = true ∧ ∃ c, gd c = true ∧ (∀ c', c' < c → gd c' = false) ∧ ∀ k, k < n → lj k = nI (hj_dg n c k)) ∨ (r = false ∧ ∀ c, c < 4 ^ n → gd c = false)
section
variable {T K : Nat} {st wr sw od os lj : Nat → Int32} {ol : Nat → List Nat}
theorem hj_yspell {post : Int32 → SY → Prop} {n c : Nat} (hn : n ≤ 4) (hc : c < 256) (h : ∀ lj', (∀ k, k < n → lj' k = nI (hj_dg n c k)) → post (hj_b (hj_sp (hj_cm st) n c fun _ => false)) (nI T, nI K, st, wr, sw, od, os, lj')) : wpY_spell post (nI T, nI K, st, wr, sw, od, os, lj) (nI c) (nI n) := by
  unfold wpY_spell
  dsimp only
  refine nm_e ⟨n + 1, ?_⟩
  have h2 := hj_ysp (T := T) (K := K) (st := st) (wr := wr) (sw := sw) (od := od) (os := os) (post := post) n c (fun _ => false) true lj (n + 1) hn hc (by omega) (fun lj' h1 _ => by
    rw [Bool.true_and]; exact h lj' h1)
  rw [hj_mk0] at h2
  exact h2
theorem hj_yf7 {post : Int32 → SY → Prop} (HO : hj_ho T wr od os ol) (hT : T ≤ 4) (hK : K ≤ 4) {kd n : Nat} (hn : n ≤ 4) (hkd : kd = 1 ∨ kd = 2 ∨ kd = 3 ∨ kd = 4)
    (H1 : ∀ c lj', hj_gd kd K n (hj_cm st) (hj_wt wr) (hj_sw sw) (hj_rf ol) c = true → (∀ c', c' < c → hj_gd kd K n (hj_cm st) (hj_wt wr) (hj_sw sw) (hj_rf ol) c' = false) → (∀ k, k < n → lj' k = nI (hj_dg n c k)) → post 1 (nI T, nI K, st, wr, sw, od, os, lj'))
    (H0 : ∀ lj', (∀ c, c < 4 ^ n → hj_gd kd K n (hj_cm st) (hj_wt wr) (hj_sw sw) (hj_rf ol) c = false) → post 0 (nI T, nI K, st, wr, sw, od, os, lj')) :
    ∀ (dd c : Nat) (lj : Nat → Int32) (q : Nat), c + dd = 4 ^ n → dd < q → (∀ c', c' < c → hj_gd kd K n (hj_cm st) (hj_wt wr) (hj_sw sw) (hj_rf ol) c' = false) → wY_find_7 post (nI kd) (nI n) q (nI c) (nI T) (nI K) st wr sw od os lj := by
  have hp := hj_p256 hn
  intro dd
  induction dd with
  | zero =>
    intro c lj q hc hq hb
    obtain ⟨q, rfl⟩ : ∃ r, q = r + 1 := ⟨q - 1, by omega⟩
    simp only [wY_find_7]
    rw [hj_shn hn]
    exact br_t (nI_le (by omega) (by omega)) (H0 lj fun c' hc' => hb c' (by omega))
  | succ dd ih =>
    intro c lj q hc hq hb
    obtain ⟨q, rfl⟩ : ∃ r, q = r + 1 := ⟨q - 1, by omega⟩
    simp only [wY_find_7]
    rw [hj_shn hn]
    refine br_f (nI_ge (by omega) (by omega)) (hj_yspell hn (by omega) fun lj' hl => ?_)
    dsimp only
    have nxt : hj_gd kd K n (hj_cm st) (hj_wt wr) (hj_sw sw) (hj_rf ol) c = false → wY_find_7 post (nI kd) (nI n) q (nI (c + 1)) (nI T) (nI K) st wr sw od os lj' := by
      intro hg
      refine ih (c + 1) lj' q (by omega) (by omega) fun c' hc' => ?_
      rcases Nat.lt_or_ge c' c with h1 | h1
      · exact hb c' h1
      · have e : c' = c := by omega
        rw [e]; exact hg
    have hd : ∀ k, hj_dg n c k < 4 := hj_dg_lt n c
    refine hj_bz (fun h0 => nm_r (nI_1 c) (nxt (by rw [hj_gd, h0]; rfl))) (fun h0 => hj_ykr HO hT hK hl hd hn (hj_bz (fun h1 => nm_r (nI_1 c) (nxt (by rw [hj_gd, h1, Bool.false_and, Bool.and_false]))) (fun h1 => ?_)))
    have hgd : hj_gd kd K n (hj_cm st) (hj_wt wr) (hj_sw sw) (hj_rf ol) c = hj_CK kd K n (hj_wt wr) (hj_sw sw) (hj_dg n c) := by
      rw [hj_gd, h0, h1, Bool.true_and, Bool.true_and]
    rw [hgd] at nxt
    have fnd : hj_CK kd K n (hj_wt wr) (hj_sw sw) (hj_dg n c) = true → post 1 (nI T, nI K, st, wr, sw, od, os, lj') := fun h => H1 c lj' (by rw [hgd]; exact h) hb hl
    rcases hkd with rfl | rfl | rfl | rfl
    · exact br_t rfl (fnd rfl)
    · refine br_f (by decide) (br_t rfl (hj_yks hl hd hn (hj_bz (fun h2 => ?_) (fun h2 => fnd h2))))
      unfold wY_find_51 wY_find_64
      exact br_f (by decide) (br_f (by decide) (nm_r (nI_1 c) (nxt h2)))
    · refine br_f (by decide) (br_f (by decide) ?_)
      unfold wY_find_51 wY_find_64
      exact br_t rfl (hj_ycs hK hl hd hn (hj_bz (fun h2 => br_f (by decide) (nm_r (nI_1 c) (nxt h2))) (fun h2 => fnd h2)))
    · refine br_f (by decide) (br_f (by decide) ?_)
      unfold wY_find_51 wY_find_64
      exact br_f (by decide) (br_t rfl (hj_ykd hK hl hd hn (hj_bz (fun h2 => nm_r (nI_1 c) (nxt h2)) (fun h2 => fnd h2))))
theorem hj_yfind {post : Int32 → SY → Prop} (HO : hj_ho T wr od os ol) (hT : T ≤ 4) (hK : K ≤ 4) {kd : Nat} (hkd : kd = 1 ∨ kd = 2 ∨ kd = 3 ∨ kd = 4)
    (H : ∀ r lj', hj_yo (hj_cn 4 (hj_cm st)) (hj_gd kd K (hj_cn 4 (hj_cm st)) (hj_cm st) (hj_wt wr) (hj_sw sw) (hj_rf ol)) r lj' → post (hj_b r) (nI T, nI K, st, wr, sw, od, os, lj')) : wpY_find post (nI T, nI K, st, wr, sw, od, os, lj) (nI kd) := by
  unfold wpY_find
  dsimp only
  refine hj_ycn ?_
  refine ⟨4 ^ hj_cn 4 (hj_cm st) + 1, hj_yf7 HO hT hK (hj_cn_N (N := 4)) hkd (fun c lj' h1 h2 h3 => H true lj' (Or.inl ⟨rfl, c, h1, h2, h3⟩)) (fun lj' h1 => H false lj' (Or.inr ⟨rfl, h1⟩)) (4 ^ hj_cn 4 (hj_cm st)) 0 lj _ (by omega) (by omega) (fun c' hc' => absurd hc' (Nat.not_lt_zero c'))⟩
/-- the reference's judgement kd after its test of cleanness -/
def hj_yq (K kd : Nat) (st wr sw : Nat → Int32) (ol : Nat → List Nat) (r : Bool) (lj : Nat → Int32) : Prop :=
  ((kd ≠ 1 ∧ hj_YC (hj_cm st) wr sw = false) ∧ r = false) ∨
  ((kd = 1 ∨ hj_YC (hj_cm st) wr sw = true) ∧ hj_yo (hj_cn 4 (hj_cm st)) (hj_gd kd K (hj_cn 4 (hj_cm st)) (hj_cm st) (hj_wt wr) (hj_sw sw) (hj_rf ol)) r lj)
theorem hj_yord {post : Int32 → SY → Prop} (HO : hj_ho T wr od os ol) (hT : T ≤ 4) (hK : K ≤ 4) (H : ∀ r lj', hj_yq K 1 st wr sw ol r lj' → post (hj_b r) (nI T, nI K, st, wr, sw, od, os, lj')) : wpY_ordered post (nI T, nI K, st, wr, sw, od, os, lj) := by
  unfold wpY_ordered
  dsimp only
  refine hj_yfind (kd := 1) HO hT hK (Or.inl rfl) fun r lj' h => ?_
  dsimp only
  exact ⟨hj_bn r, H r lj' (Or.inr ⟨Or.inl rfl, h⟩)⟩
theorem hj_ysou {post : Int32 → SY → Prop} (HO : hj_ho T wr od os ol) (hT : T ≤ 4) (hK : K ≤ 4) (H : ∀ r lj', hj_yq K 2 st wr sw ol r lj' → post (hj_b r) (nI T, nI K, st, wr, sw, od, os, lj')) : wpY_sourced post (nI T, nI K, st, wr, sw, od, os, lj) := by
  unfold wpY_sourced
  dsimp only
  refine hj_ycl (hj_bz (fun h0 => H false lj (Or.inl ⟨⟨by decide, h0⟩, rfl⟩)) (fun h0 => hj_yfind (kd := 2) HO hT hK (Or.inr (Or.inl rfl)) fun r lj' h => ?_))
  dsimp only
  have h1 := H r lj' (Or.inr ⟨Or.inr h0, h⟩)
  refine hj_bz (fun h2 => ?_) (fun h2 => ?_)
  · rw [h2] at h1; exact h1
  · rw [h2] at h1; exact h1
theorem hj_ysna {post : Int32 → SY → Prop} (HO : hj_ho T wr od os ol) (hT : T ≤ 4) (hK : K ≤ 4) (H : ∀ r lj', hj_yq K 3 st wr sw ol r lj' → post (hj_b r) (nI T, nI K, st, wr, sw, od, os, lj')) : wpY_snapshot post (nI T, nI K, st, wr, sw, od, os, lj) := by
  unfold wpY_snapshot
  dsimp only
  refine hj_ycl (hj_bz (fun h0 => H false lj (Or.inl ⟨⟨by decide, h0⟩, rfl⟩)) (fun h0 => hj_yfind (kd := 3) HO hT hK (Or.inr (Or.inr (Or.inl rfl))) fun r lj' h => ?_))
  dsimp only
  have h1 := H r lj' (Or.inr ⟨Or.inr h0, h⟩)
  refine hj_bz (fun h2 => ?_) (fun h2 => ?_)
  · rw [h2] at h1; exact h1
  · rw [h2] at h1; exact h1
theorem hj_yser {post : Int32 → SY → Prop} (HO : hj_ho T wr od os ol) (hT : T ≤ 4) (hK : K ≤ 4) (H : ∀ r lj', hj_yq K 4 st wr sw ol r lj' → post (hj_b r) (nI T, nI K, st, wr, sw, od, os, lj')) : wpY_serial post (nI T, nI K, st, wr, sw, od, os, lj) := by
  unfold wpY_serial
  dsimp only
  refine hj_ycl (hj_bz (fun h0 => H false lj (Or.inl ⟨⟨by decide, h0⟩, rfl⟩)) (fun h0 => hj_yfind (kd := 4) HO hT hK (Or.inr (Or.inr (Or.inr rfl))) fun r lj' h => ?_))
  dsimp only
  have h1 := H r lj' (Or.inr ⟨Or.inr h0, h⟩)
  refine hj_bz (fun h2 => ?_) (fun h2 => ?_)
  · rw [h2] at h1; exact h1
  · rw [h2] at h1; exact h1
end
end
section
/-! the component's walks, first part: committed, clean, from, rank -/
def hj_xf (cm : Nat → Bool) (wr : Nat → Int32) (p : Nat → Bool) (x j : Nat) : Bool :=
  decide (hj_v2 (p (2 * j + 1)) (p (2 * j + 2)) = 0) || (cm j && decide (nI (hj_v2 (p (2 * j + 1)) (p (2 * j + 2))) = wr (j * 4 + x)))
def hj_XC (T K : Nat) (cm : Nat → Bool) (wr : Nat → Int32) (sb : Nat → Nat → Nat → Bool) : Bool :=
  hj_al T fun i => hj_al K fun x => !cm i || hj_al T (hj_xf cm wr (sb i x) x)
theorem hj_v2_4 (a b : Bool) : hj_v2 a b < 4 := by cases a <;> cases b <;> decide
section
variable {T K : Nat} {rc ls : Int32} {st wr rd od os rk ve se oe ed li : Nat → Int32} {sb : Nat → Nat → Nat → Bool}
theorem hj_xcm {post : Int32 → Prop} {i : Nat} (hi : i < 4) (h : post (hj_b (hj_cm st i))) : wpX_committed post (nI T, nI K, rc, ls, st, wr, rd, od, os, rk, ve, se, oe, ed, li) (nI i) := by
  unfold wpX_committed
  dsimp only
  rw [hj_c4 hi]
  refine ⟨hj_v4 hi, ?_⟩
  by_cases e : st i = 1
  · rw [hj_cm, decide_eq_true e] at h
    exact br_t e h
  · rw [hj_cm, decide_eq_false e] at h
    exact br_f e h
theorem hj_xcr {post : Int32 → Prop} (hT : T ≤ 4) (HR : ∀ i x, i < 4 → x < 4 → rd (i * 4 + x) = hj_r9 (sb i x)) {i x : Nat} (hi : i < 4) (hx : x < 4) (h : post (hj_b (hj_al T (hj_xf (hj_cm st) wr (sb i x) x)))) : wpX_cleanReads post (nI T, nI K, rc, ls, st, wr, rd, od, os, rk, ve, se, oe, ed, li) (nI i) (nI x) := by
  unfold wpX_cleanReads
  dsimp only
  rw [hj_i4c hi hx]
  refine ⟨hj_i4v hi hx, nm_r (HR i x hi hx) ?_⟩
  obtain ⟨m0, hm0⟩ := hj_lpe (P := fun m j => hj_al j (hj_xf (hj_cm st) wr (sb i x) x) = true → wX_cleanReads_14 post (nI x) (hj_r9 (sb i x)) (nI T) (nI K) rc ls st wr rd od os rk ve se oe ed li m (nI j)) T (fun m ht => by
    simp only [wX_cleanReads_14]
    rw [ht] at h
    exact br_t (Int32.le_refl _) h) (fun m j hj ih ht => by
    have es : hj_al (j + 1) (hj_xf (hj_cm st) wr (sb i x) x) = (hj_al j (hj_xf (hj_cm st) wr (sb i x) x) && hj_xf (hj_cm st) wr (sb i x) x j) := rfl
    rw [es, ht, Bool.true_and] at ih
    have fl : hj_xf (hj_cm st) wr (sb i x) x j = false → post 0 := fun e => by
      rw [hj_alF hj e] at h; exact h
    have hv := hj_v2_4 (sb i x (2 * j + 1)) (sb i x (2 * j + 2))
    have hj4 : j < 4 := by omega
    simp only [wX_cleanReads_14]
    rw [hj_i4c hj4 hx]
    refine br_f (nI_ge hj (by omega)) (nm_r (hj_r9v (sb i x) hj4) ⟨hj_i4v hj4 hx, nm_e (pk_eq (hj_v2 (sb i x (2 * j + 1)) (sb i x (2 * j + 2))) 0 (fun h0 => nm_r (nI_1 j) (ih ?_)) (fun h0 => hj_xcm hj4 (hj_bz (fun h1 => fl ?_) (fun h1 => ?_))))⟩)
    · rw [hj_xf, decide_eq_true h0, Bool.true_or]
    · rw [hj_xf, decide_eq_false h0, h1]; rfl
    · by_cases e : nI (hj_v2 (sb i x (2 * j + 1)) (sb i x (2 * j + 2))) = wr (j * 4 + x)
      · exact br_t e (nm_r (nI_1 j) (ih (by rw [hj_xf, h1, decide_eq_true e, Bool.true_and, Bool.or_true])))
      · exact br_f e (fl (by rw [hj_xf, decide_eq_false h0, h1, decide_eq_false e]; rfl))) 0 (Nat.zero_le _)
  exact ⟨m0, hm0 rfl⟩
theorem hj_xcl {post : Int32 → Prop} (hT : T ≤ 4) (hK : K ≤ 4) (HR : ∀ i x, i < 4 → x < 4 → rd (i * 4 + x) = hj_r9 (sb i x)) (h : post (hj_b (hj_XC T K (hj_cm st) wr sb))) : wpX_clean post (nI T, nI K, rc, ls, st, wr, rd, od, os, rk, ve, se, oe, ed, li) := by
  obtain ⟨m0, hm0⟩ := hj_lpe (P := fun m i => (hj_al i fun i => hj_al K fun x => !hj_cm st i || hj_al T (hj_xf (hj_cm st) wr (sb i x) x)) = true → wX_clean_2 post (nI T) (nI K) rc ls st wr rd od os rk ve se oe ed li m (nI i)) T (fun m ht => by
    simp only [wX_clean_2]
    rw [hj_XC, ht] at h
    exact br_t (Int32.le_refl _) h) (fun m i hi ih ht => by
    have es : ∀ F : Nat → Bool, hj_al (i + 1) F = (hj_al i F && F i) := fun _ => rfl
    rw [es, ht, Bool.true_and] at ih
    simp only [wX_clean_2]
    refine br_f (nI_ge hi (by omega)) ?_
    obtain ⟨q0, hq0⟩ := hj_lpe (P := fun q x => (hj_al x fun x => !hj_cm st i || hj_al T (hj_xf (hj_cm st) wr (sb i x) x)) = true → wX_clean_12 post (wX_clean_2 post (nI T) (nI K) rc ls st wr rd od os rk ve se oe ed li m) (nI i) (nI T) (nI K) rc ls st wr rd od os rk ve se oe ed li q (nI x)) K (fun q hq => by
      simp only [wX_clean_12]
      exact br_t (Int32.le_refl _) (nm_r (nI_1 i) (ih hq))) (fun q x hx ih2 hq => by
      have es2 : ∀ F : Nat → Bool, hj_al (x + 1) F = (hj_al x F && F x) := fun _ => rfl
      rw [es2, hq, Bool.true_and] at ih2
      simp only [wX_clean_12]
      refine br_f (nI_ge hx (by omega)) (hj_xcm (by omega) (hj_bz (fun h0 => nm_r (nI_1 x) (ih2 ?_)) (fun h0 => hj_xcr hT HR (by omega) (by omega) (hj_bz (fun h1 => ?_) (fun h1 => nm_r (nI_1 x) (ih2 ?_))))))
      · rw [h0]; rfl
      · have e : hj_XC T K (hj_cm st) wr sb = false := by
          rw [hj_XC]
          refine hj_alF hi (hj_alF hx ?_)
          rw [h0, h1]; rfl
        rw [e] at h; exact h
      · rw [h1, Bool.or_true]) 0 (Nat.zero_le _)
    exact ⟨q0, hq0 rfl⟩) 0 (Nat.zero_le _)
  exact ⟨m0, hm0 rfl⟩
theorem hj_xf4 {post : Int32 → Prop} {R : List Nat} (hr : hj_hd rk R) (h4 : R.length ≤ 4) (hv : ∀ v, v ∈ R → v < 4) : ∀ (rs dn : List Nat) (p : Nat → Bool), R = dn ++ rs → post (hj_mk fun j => p j || decide (j ∈ rs)) → ∀ m, rs.length < m → wX_from_4 post (nI T) (nI K) (nI R.length) ls st wr rd od os rk ve se oe ed li m (hj_mk p) (nI dn.length) := by
  intro rs
  induction rs with
  | nil =>
    intro dn p e h m hm
    obtain ⟨m, rfl⟩ : ∃ r, m = r + 1 := ⟨m - 1, by omega⟩
    have hl : R.length = dn.length := by rw [e, List.append_nil]
    simp only [wX_from_4]
    rw [hl]
    refine br_t (Int32.le_refl _) ?_
    rw [hj_mkx (q := p) fun i _ => by simp] at h
    exact h
  | cons v rs ih =>
    intro dn p e h m hm
    obtain ⟨m, rfl⟩ : ∃ r, m = r + 1 := ⟨m - 1, by omega⟩
    have hl : R.length = dn.length + (rs.length + 1) := by rw [e, List.length_append, List.length_cons]
    have hvm : v < 4 := hv v (by rw [e]; exact List.mem_append_right _ List.mem_cons_self)
    simp only [wX_from_4]
    rw [hj_c4 (k := dn.length) (by omega), hr dn.length v (hj_mid e), hj_one hvm, hj_or]
    refine br_f (nI_ge (by omega) (by omega)) ⟨hj_v4 (by omega), nm_e (nm_r (nI_1 _) ?_)⟩
    have h5 := ih (dn ++ [v]) (fun j => p j || j == v) (by rw [e, List.append_assoc]; rfl) (by
      rw [hj_mkx (q := fun j => p j || decide (j ∈ v :: rs)) fun i _ => by
        rw [Bool.or_assoc]
        congr 1
        rw [Bool.eq_iff_iff, Bool.or_eq_true, beq_iff_eq, decide_eq_true_eq, decide_eq_true_eq, List.mem_cons]]
      exact h) m (by rw [List.length_cons] at hm; omega)
    rw [List.length_append, List.length_singleton] at h5
    exact h5
theorem hj_xfr {post : Int32 → Prop} {R dn rs : List Nat} (hr : hj_hd rk R) (h4 : R.length ≤ 4) (hv : ∀ v, v ∈ R → v < 4) (e : R = dn ++ rs) (h : post (hj_mk fun j => decide (j ∈ rs))) : wpX_from post (nI T, nI K, nI R.length, ls, st, wr, rd, od, os, rk, ve, se, oe, ed, li) (nI dn.length) := by
  refine ⟨rs.length + 1, ?_⟩
  have h5 := hj_xf4 (T := T) (K := K) (ls := ls) (st := st) (wr := wr) (rd := rd) (od := od) (os := os) (ve := ve) (se := se) (oe := oe) (ed := ed) (li := li) (post := post) hr h4 hv rs dn (fun _ => false) e h (rs.length + 1) (by omega)
  rw [hj_mk0] at h5
  exact h5
theorem hj_R_4 {cm wx : Nat → Bool} {l : List Nat} {N : Nat} (h4 : ∀ i, cm i = true → i < 4) {v : Nat} (h : v ∈ hj_R N cm wx l) : v < 4 := by
  unfold hj_R at h
  rw [List.mem_append, List.mem_filter, List.mem_filter, Bool.and_eq_true, Bool.and_eq_true] at h
  rcases h with h | h
  · exact h4 v h.2
  · exact h4 v h.2.1.2
theorem hj_R_len {cm wx : Nat → Bool} {l : List Nat} (N : Nat) (h4 : ∀ i, cm i = true → i < 4) (hn : l.Nodup) (hl : l.length ≤ 4) : (hj_R N cm wx l).length ≤ 4 :=
  hj_nd4 (hj_pw_nd (hj_R_pw hn hl)) fun _ hv => hj_R_4 h4 hv
theorem hj_R_s (cm wx : Nat → Bool) (l : List Nat) (i : Nat) : hj_R (i + 1) cm wx l = hj_R i cm wx l ++ (if ((!decide (i ∈ l) && cm i) && wx i) = true then [i] else []) := by
  unfold hj_R
  rw [List.range_succ, List.filter_append, List.append_assoc]
  congr 2
  by_cases h : ((!decide (i ∈ l) && cm i) && wx i) = true
  · rw [if_pos h]
    exact List.filter_cons_of_pos (p := fun i => (!decide (i ∈ l) && cm i) && wx i) (a := i) (l := []) h
  · rw [if_neg h]
    exact List.filter_cons_of_neg (p := fun i => (!decide (i ∈ l) && cm i) && wx i) (a := i) (l := []) h
theorem hj_xr77 {post : SX → Prop} {l : List Nat} {x : Nat} (hT : T ≤ 4) (hx : x < 4) (h4 : ∀ i, hj_cm st i = true → i < 4) (hn : l.Nodup) (hl : l.length ≤ 4)
    (J : ∀ rk', hj_hd rk' (hj_R T (hj_cm st) (fun i => hj_wt wr i x) l) → post (nI T, nI K, nI (hj_R T (hj_cm st) (fun i => hj_wt wr i x) l).length, ls, st, wr, rd, od, os, rk', ve, se, oe, ed, li)) :
    ∀ (dd i : Nat) (rk : Nat → Int32) (m : Nat), i + dd = T → dd < m → hj_hd rk (hj_R i (hj_cm st) (fun i => hj_wt wr i x) l) → wX_rank_77 post (nI x) (hj_mk fun j => decide (j ∈ l)) (nI T) (nI K) ls m (nI i) (nI (hj_R i (hj_cm st) (fun i => hj_wt wr i x) l).length) st wr rd od os rk ve se oe ed li := by
  intro dd
  induction dd with
  | zero =>
    intro i rk m hi hm hr
    obtain ⟨m, rfl⟩ : ∃ r, m = r + 1 := ⟨m - 1, by omega⟩
    have e : i = T := by omega
    subst e
    simp only [wX_rank_77]
    exact br_t (Int32.le_refl _) (J rk hr)
  | succ dd ih =>
    intro i rk m hi hm hr
    obtain ⟨m, rfl⟩ : ∃ r, m = r + 1 := ⟨m - 1, by omega⟩
    have hi4 : i < 4 := by omega
    have hs := hj_R_s (hj_cm st) (fun i => hj_wt wr i x) l i
    have hl2 := hj_R_len (wx := fun i => hj_wt wr i x) (i + 1) h4 hn hl
    have skip : ((!decide (i ∈ l) && hj_cm st i) && hj_wt wr i x) = false → wX_rank_77 post (nI x) (hj_mk fun j => decide (j ∈ l)) (nI T) (nI K) ls m (nI (i + 1)) (nI (hj_R i (hj_cm st) (fun i => hj_wt wr i x) l).length) st wr rd od os rk ve se oe ed li := by
      intro h
      rw [if_neg (hj_nt h), List.append_nil] at hs
      have h5 := ih (i + 1) rk m (by omega) (by omega) (by rw [hs]; exact hr)
      rw [hs] at h5
      exact h5
    simp only [wX_rank_77]
    refine br_f (nI_ge (by omega) (by omega)) (hj_ifn (hj_bit _ hi4) (fun h0 => ?_) (fun h0 => ?_))
    · unfold wX_rank_98
      refine br_f (by decide) (hj_xcm hi4 (hj_bz (fun h1 => nm_r (nI_1 i) (skip ?_)) (fun h1 => ?_)))
      · rw [h1, Bool.and_false, Bool.false_and]
      · rw [hj_i4c hi4 hx]
        refine ⟨hj_i4v hi4 hx, ?_⟩
        cases hw : hj_wt wr i x with
        | false => exact br_t (hj_wt_f hw) (nm_r (nI_1 i) (skip (by rw [hw, Bool.and_false])))
        | true =>
          rw [if_pos (by rw [h0, h1, hw]; rfl)] at hs
          rw [hs, List.length_append, List.length_singleton] at hl2
          rw [hj_c4 (k := (hj_R i (hj_cm st) (fun i => hj_wt wr i x) l).length) (by omega), hj_bv (by omega), hj_vbv (by omega)]
          refine br_f (hj_wt_t hw) ⟨hj_v4 (by omega), nm_e (nm_r (nI_1 _) (nm_r (nI_1 i) ?_))⟩
          have h5 := ih (i + 1) (upd rk (hj_R i (hj_cm st) (fun i => hj_wt wr i x) l).length (nI i)) m (by omega) (by omega) (by rw [hs]; exact hj_hd_s hr i)
          rw [hs, List.length_append, List.length_singleton] at h5
          exact h5
    · unfold wX_rank_98
      exact br_t rfl (nm_r (nI_1 i) (skip (by rw [h0]; rfl)))
theorem hj_xr9 {post : SX → Prop} {l : List Nat} {x : Nat} (hx : x < 4) (ho : os x = nI l.length) (hod : ∀ k v, l[k]? = some v → od (x * 4 + k) = nI v) (hl4 : l.length ≤ 4) (hv : ∀ v, v ∈ l → v < 4)
    (J : ∀ rk', hj_hd rk' (l.filter (hj_cm st)) → ∃ m, wX_rank_77 post (nI x) (hj_mk fun j => decide (j ∈ l)) (nI T) (nI K) ls m 0 (nI (l.filter (hj_cm st)).length) st wr rd od os rk' ve se oe ed li) :
    ∀ (rs dn : List Nat) (rk : Nat → Int32), l = dn ++ rs → hj_hd rk (dn.filter (hj_cm st)) → ∀ m, rs.length < m → wX_rank_9 post (nI x) (nI T) (nI K) ls m (hj_mk fun j => decide (j ∈ dn)) (nI dn.length) (nI (dn.filter (hj_cm st)).length) st wr rd od os rk ve se oe ed li := by
  intro rs
  induction rs with
  | nil =>
    intro dn rk e hr m hm
    obtain ⟨m, rfl⟩ : ∃ r, m = r + 1 := ⟨m - 1, by omega⟩
    rw [List.append_nil] at e
    subst e
    simp only [wX_rank_9]
    rw [hj_c4 hx, ho]
    exact ⟨hj_v4 hx, br_t (Int32.le_refl _) (J rk hr)⟩
  | cons v rs ih =>
    intro dn rk e hr m hm
    obtain ⟨m, rfl⟩ : ∃ r, m = r + 1 := ⟨m - 1, by omega⟩
    have hl : l.length = dn.length + (rs.length + 1) := by rw [e, List.length_append, List.length_cons]
    have hvm : v < 4 := hv v (by rw [e]; exact List.mem_append_right _ List.mem_cons_self)
    have hlk := hod dn.length v (hj_mid e)
    have hfl : (dn.filter (hj_cm st)).length ≤ dn.length := List.length_filter_le _ _
    have em : (hj_mk fun j => decide (j ∈ dn)) ||| ((1 : Int32) <<< (nI v &&& 31)) = hj_mk fun j => decide (j ∈ dn ++ [v]) := by
      rw [hj_one hvm, hj_or]
      refine hj_mkx fun i _ => ?_
      rw [Bool.eq_iff_iff, Bool.or_eq_true, beq_iff_eq, decide_eq_true_eq, decide_eq_true_eq, List.mem_append, List.mem_singleton]
    have e2 : l = (dn ++ [v]) ++ rs := by rw [e, List.append_assoc]; rfl
    have hml : rs.length < m := by rw [List.length_cons] at hm; omega
    simp only [wX_rank_9]
    rw [hj_c4 hx, ho, hj_i4c hx (by omega), hlk]
    refine ⟨hj_v4 hx, br_f (nI_ge (by omega) (by omega)) ⟨hj_i4v hx (by omega), nm_e (nm_r em (hj_xcm hvm (hj_bz (fun h0 => nm_r (nI_1 _) ?_) (fun h0 => ?_))))⟩⟩
    · have hf : (dn ++ [v]).filter (hj_cm st) = dn.filter (hj_cm st) := by
        rw [List.filter_append, List.filter_cons_of_neg (by rw [h0]; decide), List.filter_nil, List.append_nil]
      have h5 := ih (dn ++ [v]) rk e2 (by rw [hf]; exact hr) m hml
      rw [hf, List.length_append, List.length_singleton] at h5
      exact h5
    · have hf : (dn ++ [v]).filter (hj_cm st) = dn.filter (hj_cm st) ++ [v] := by
        rw [List.filter_append, List.filter_cons_of_pos h0, List.filter_nil]
      rw [hj_c4 (k := (dn.filter (hj_cm st)).length) (by omega), hj_bv (by omega), hj_vbv (by omega)]
      refine ⟨hj_v4 (by omega), nm_e (nm_r (nI_1 _) (nm_r (nI_1 _) ?_))⟩
      have h5 := ih (dn ++ [v]) (upd rk (dn.filter (hj_cm st)).length (nI v)) e2 (by rw [hf]; exact hj_hd_s hr v) m hml
      rw [hf, List.length_append, List.length_append, List.length_singleton] at h5
      exact h5
theorem hj_xrk {post : SX → Prop} {ol : Nat → List Nat} {x : Nat} (HO : hj_ho T wr od os ol) (hT : T ≤ 4) (h4 : ∀ i, hj_cm st i = true → i < 4) (hx : x < 4)
    (J : ∀ rk', hj_hd rk' (hj_R T (hj_cm st) (fun i => hj_wt wr i x) (ol x)) → post (nI T, nI K, nI (hj_R T (hj_cm st) (fun i => hj_wt wr i x) (ol x)).length, ls, st, wr, rd, od, os, rk', ve, se, oe, ed, li)) : wpX_rank post (nI T, nI K, rc, ls, st, wr, rd, od, os, rk, ve, se, oe, ed, li) (nI x) := by
  obtain ⟨h1, h2, h3, h5⟩ := HO x hx
  have hl := hj_ho4 HO hT hx
  refine ⟨(ol x).length + 1, ?_⟩
  have h6 := hj_xr9 (T := T) (K := K) (ls := ls) (st := st) (wr := wr) (rd := rd) (od := od) (os := os) (ve := ve) (se := se) (oe := oe) (ed := ed) (li := li) (post := post) hx h1 h2 hl (fun v hv => by have := (h5 v hv).1; omega) (fun rk' hr => by
    refine ⟨T + 1, ?_⟩
    have e0 : hj_R 0 (hj_cm st) (fun i => hj_wt wr i x) (ol x) = (ol x).filter (hj_cm st) := by unfold hj_R; simp
    have h7 := hj_xr77 (T := T) (K := K) (ls := ls) (st := st) (wr := wr) (rd := rd) (od := od) (os := os) (ve := ve) (se := se) (oe := oe) (ed := ed) (li := li) (post := post) hT hx h4 h3 hl J T 0 rk' (T + 1) (by omega) (by omega) (by rw [e0]; exact hr)
    rw [e0] at h7
    exact h7) (ol x) [] rk rfl (by intro k v hk; simp at hk) ((ol x).length + 1) (by omega)
  rw [hj_mkx (q := fun _ => false) (fun i _ => by simp), hj_mk0] at h6
  exact h6
end
end
section
/-! the component's walks, second part: the graph -/
def hj_em (a : Nat → Int32) (V : Nat → Nat → Bool) : Prop := ∀ i, i < 4 → a i = hj_mk (V i)
theorem hj_em_x {a : Nat → Int32} {V V' : Nat → Nat → Bool} (h : hj_em a V) (e : ∀ i j, i < 4 → j < 4 → V i j = V' i j) : hj_em a V' :=
  fun i hi => by rw [h i hi]; exact hj_mkx fun j hj => e i j hi hj
theorem hj_em_u {a : Nat → Int32} {V : Nat → Nat → Bool} (h : hj_em a V) {i : Nat} (hi : i < 4) (p : Nat → Bool) : hj_em (upd a i (vp_nar .byte ((a i ||| hj_mk p).toInt8.toInt32))) (fun k j => V k j || (k == i && p j)) := by
  intro k hk
  by_cases e : k = i
  · rw [e, pk_us, h i hi, hj_or, hj_by, hj_vby]
    refine hj_mkx fun j _ => ?_
    dsimp only
    rw [beq_self_eq_true, Bool.true_and]
  · rw [pk_un e, h k hk]
    refine hj_mkx fun j _ => ?_
    dsimp only
    rw [beq_eq_false_iff_ne.mpr e, Bool.false_and, Bool.or_false]
def hj_pp (p : Nat → Bool) (s : Nat) : Bool := p (2 * s + 1) || p (2 * s + 2)
theorem hj_v2z (a b : Bool) : hj_v2 a b = 0 ↔ (a || b) = false := by cases a <;> cases b <;> decide
/-- what one key adds to the overwrite edges of reader i -/
def hj_ox (R : List Nat) (f : Nat → Nat) (p : Nat → Bool) (i j : Nat) : Bool := !(j == i) && (decide (j ∈ R) && (p 0 || R.any fun s => hj_pp p s && decide (f s < f j)))
def hj_sx (R : List Nat) (p : Nat → Bool) (s : Nat) : Bool := decide (s ∈ R) && hj_pp p s
def hj_vx (R : List Nat) (f : Nat → Nat) (i j : Nat) : Bool := decide (i ∈ R) && (decide (j ∈ R) && decide (f i < f j))
theorem hj_b5 {V a r b x : Bool} : ((V || (a && x)) || (b && x)) = (V || ((a || b) && x)) := by
  cases V <;> cases a <;> cases b <;> cases x <;> rfl
section
variable {T K : Nat} {rc ls : Int32} {st wr rd od os rk ve se oe ed li : Nat → Int32} {sb : Nat → Nat → Nat → Bool} {R : List Nat} {f : Nat → Nat}
theorem hj_xb51 {post : SX → Prop} {J36 : Int32 → Int32 → Int32 → Int32 → Int32 → (Nat → Int32) → (Nat → Int32) → (Nat → Int32) → (Nat → Int32) → (Nat → Int32) → (Nat → Int32) → (Nat → Int32) → (Nat → Int32) → (Nat → Int32) → (Nat → Int32) → (Nat → Int32) → Prop} {x1 : Int32} (hr : hj_hd rk R) (h4 : R.length ≤ 4) (hv : ∀ v, v ∈ R → v < 4) (hp : R.Pairwise (fun a b => f a < f b)) :
    ∀ (rs dn : List Nat) (ve : Nat → Int32) (V : Nat → Nat → Bool), R = dn ++ rs → hj_em ve V →
    (∀ ve', hj_em ve' (fun i j => V i j || (decide (i ∈ rs) && (decide (j ∈ R) && decide (f i < f j)))) → ∃ m, wX_build_98 post J36 x1 m 0 (nI T) (nI K) (nI R.length) ls st wr rd od os rk ve' se oe ed li) →
    ∀ m, rs.length < m → wX_build_51 post J36 x1 (nI T) (nI K) (nI R.length) ls m (nI dn.length) st wr rd od os rk ve se oe ed li := by
  intro rs
  induction rs with
  | nil =>
    intro dn ve V e hV J m hm
    obtain ⟨m, rfl⟩ : ∃ r, m = r + 1 := ⟨m - 1, by omega⟩
    have hl : R.length = dn.length := by rw [e, List.append_nil]
    simp only [wX_build_51]
    rw [← hl]
    exact br_t (Int32.le_refl _) (J ve (hj_em_x hV fun i j _ _ => by simp))
  | cons s rs ih =>
    intro dn ve V e hV J m hm
    obtain ⟨m, rfl⟩ : ∃ r, m = r + 1 := ⟨m - 1, by omega⟩
    have hl : R.length = dn.length + (rs.length + 1) := by rw [e, List.length_append, List.length_cons]
    have hsm : s < 4 := hv s (by rw [e]; exact List.mem_append_right _ List.mem_cons_self)
    have e2 : R = (dn ++ [s]) ++ rs := by rw [e, List.append_assoc]; rfl
    have el : (dn ++ [s]).length = dn.length + 1 := by rw [List.length_append, List.length_singleton]
    have hml : rs.length < m := by rw [List.length_cons] at hm; omega
    simp only [wX_build_51]
    rw [hj_c4 (k := dn.length) (by omega), hr dn.length s (hj_mid e), hj_c4 hsm, nI_1, ← el]
    refine br_f (nI_ge (by omega) (by omega)) ⟨hj_v4 (by omega), hj_v4 (by omega), hj_v4 hsm, hj_xfr hr h4 hv e2 ⟨hj_v4 hsm, nm_e (nm_e ?_)⟩⟩
    refine ih (dn ++ [s]) _ _ e2 (hj_em_u hV hsm fun j => decide (j ∈ rs)) (fun ve' hV' => J ve' (hj_em_x hV' fun i j _ _ => ?_)) m hml
    try dsimp only
    have ha : decide (j ∈ rs) = (decide (j ∈ R) && decide (f s < f j)) := by
      rw [Bool.eq_iff_iff, Bool.and_eq_true, decide_eq_true_eq, decide_eq_true_eq, decide_eq_true_eq]
      exact hj_aft hp e j
    rw [ha]
    by_cases hi : i = s
    · rw [hi, beq_self_eq_true, hj_b5 (r := true), Bool.true_or, decide_eq_true (List.mem_cons_self (a := s) (l := rs))]
    · have h6 : decide (i ∈ s :: rs) = decide (i ∈ rs) := by
        rw [Bool.eq_iff_iff, decide_eq_true_eq, decide_eq_true_eq, List.mem_cons]
        exact ⟨fun h => h.resolve_left hi, Or.inr⟩
      rw [beq_eq_false_iff_ne.mpr hi, Bool.false_and, Bool.or_false, h6]
theorem hj_xa49 {post : SX → Prop} {p : Nat → Bool} {i : Nat} (hi : i < 4) (hr : hj_hd rk R) (h4 : R.length ≤ 4) (hv : ∀ v, v ∈ R → v < 4) (hp : R.Pairwise (fun a b => f a < f b)) :
    ∀ (rs dn : List Nat) (se oe : Nat → Int32) (V O : Nat → Nat → Bool), R = dn ++ rs → hj_em se V → hj_em oe O →
    (∀ se' oe', hj_em se' (fun s k => V s k || ((decide (s ∈ rs) && hj_pp p s) && k == i)) → hj_em oe' (fun k j => O k j || (k == i && (!(j == i) && (decide (j ∈ R) && rs.any fun s => hj_pp p s && decide (f s < f j))))) → post (nI T, nI K, nI R.length, ls, st, wr, rd, od, os, rk, ve, se', oe', ed, li)) →
    ∀ m, rs.length < m → wX_addReads_49 post (nI i) (hj_r9 p) ((hj_mk fun j => j == i) ^^^ (-1)) (nI T) (nI K) (nI R.length) ls m (nI dn.length) st wr rd od os rk ve se oe ed li := by
  intro rs
  induction rs with
  | nil =>
    intro dn se oe V O e hV hO J m hm
    obtain ⟨m, rfl⟩ : ∃ r, m = r + 1 := ⟨m - 1, by omega⟩
    have hl : R.length = dn.length := by rw [e, List.append_nil]
    simp only [wX_addReads_49]
    rw [← hl]
    exact br_t (Int32.le_refl _) (J se oe (hj_em_x hV fun i j _ _ => by simp) (hj_em_x hO fun i j _ _ => by simp))
  | cons s rs ih =>
    intro dn se oe V O e hV hO J m hm
    obtain ⟨m, rfl⟩ : ∃ r, m = r + 1 := ⟨m - 1, by omega⟩
    have hl : R.length = dn.length + (rs.length + 1) := by rw [e, List.length_append, List.length_cons]
    have hsm : s < 4 := hv s (by rw [e]; exact List.mem_append_right _ List.mem_cons_self)
    have e2 : R = (dn ++ [s]) ++ rs := by rw [e, List.append_assoc]; rfl
    have el : (dn ++ [s]).length = dn.length + 1 := by rw [List.length_append, List.length_singleton]
    have hml : rs.length < m := by rw [List.length_cons] at hm; omega
    have ha : ∀ j, decide (j ∈ rs) = (decide (j ∈ R) && decide (f s < f j)) := fun j => by
      rw [Bool.eq_iff_iff, Bool.and_eq_true, decide_eq_true_eq, decide_eq_true_eq, decide_eq_true_eq]
      exact hj_aft hp e j
    have hv2 := hj_v2_4 (p (2 * s + 1)) (p (2 * s + 2))
    have hmem : ∀ k, decide (k ∈ s :: rs) = (k == s || decide (k ∈ rs)) := fun k => by
      rw [Bool.eq_iff_iff, Bool.or_eq_true, beq_iff_eq, decide_eq_true_eq, decide_eq_true_eq, List.mem_cons]
    simp only [wX_addReads_49]
    rw [hj_c4 (k := dn.length) (by omega), hr dn.length s (hj_mid e), nI_1, ← el]
    refine br_f (nI_ge (by omega) (by omega)) ⟨hj_v4 (by omega), nm_e ?_⟩
    rw [hj_r9v p hsm, hj_c4 hsm, hj_c4 hi]
    refine pk_eq (hj_v2 (p (2 * s + 1)) (p (2 * s + 2))) 0 (fun h0 => nm_e ?_) (fun h0 => ?_)
    · have h1 : hj_pp p s = false := (hj_v2z _ _).mp h0
      refine ih (dn ++ [s]) se oe V O e2 hV hO (fun se' oe' h2 h3 => J se' oe' (hj_em_x h2 fun k j _ _ => ?_) (hj_em_x h3 fun k j _ _ => ?_)) m hml
      · try dsimp only
        rw [hmem]
        by_cases e3 : k = s
        · rw [e3, h1, Bool.and_false, Bool.and_false]
        · rw [beq_eq_false_iff_ne.mpr e3, Bool.false_or]
      · try dsimp only
        rw [List.any_cons, h1, Bool.false_and, Bool.false_or]
    · have h1 : hj_pp p s = true := by
        apply Classical.byContradiction
        intro h2
        exact h0 ((hj_v2z _ _).mpr (hj_bf h2))
      rw [hj_one hi]
      refine ⟨hj_v4 hsm, hj_v4 hsm, nm_e ⟨hj_v4 hi, hj_xfr hr h4 hv e2 ⟨hj_v4 hi, nm_e (nm_e ?_)⟩⟩⟩
      rw [hj_andn]
      refine ih (dn ++ [s]) _ _ _ _ e2 (hj_em_u hV hsm fun j => j == i) (hj_em_u hO hi fun j => decide (j ∈ rs) && !(j == i)) (fun se' oe' h2 h3 => J se' oe' (hj_em_x h2 fun k j _ _ => ?_) (hj_em_x h3 fun k j _ _ => ?_)) m hml
      · try dsimp only
        rw [hmem]
        by_cases e3 : k = s
        · rw [e3, h1, beq_self_eq_true]
          cases V s j <;> cases decide (s ∈ rs) <;> cases (j == i) <;> rfl
        · rw [beq_eq_false_iff_ne.mpr e3, Bool.false_or, Bool.false_and, Bool.or_false]
      · try dsimp only
        rw [List.any_cons, h1, Bool.true_and, ha j]
        generalize (rs.any fun s => hj_pp p s && decide (f s < f j)) = z
        cases O k j <;> cases (k == i) <;> cases (j == i) <;> cases decide (j ∈ R) <;> cases decide (f s < f j) <;> cases z <;> rfl
theorem hj_xar {post : SX → Prop} {p : Nat → Bool} {i x : Nat} {V O : Nat → Nat → Bool} (hi : i < 4) (hx : x < 4) (hR : rd (i * 4 + x) = hj_r9 p) (hr : hj_hd rk R) (h4 : R.length ≤ 4) (hv : ∀ v, v ∈ R → v < 4) (hp : R.Pairwise (fun a b => f a < f b)) (hV : hj_em se V) (hO : hj_em oe O)
    (J : ∀ se' oe', hj_em se' (fun s k => V s k || (hj_sx R p s && k == i)) → hj_em oe' (fun k j => O k j || (k == i && hj_ox R f p i j)) → post (nI T, nI K, nI R.length, ls, st, wr, rd, od, os, rk, ve, se', oe', ed, li)) : wpX_addReads post (nI T, nI K, nI R.length, ls, st, wr, rd, od, os, rk, ve, se, oe, ed, li) (nI i) (nI x) := by
  unfold wpX_addReads
  dsimp only
  rw [hj_i4c hi hx, hR, hj_one hi, hj_c4 hi]
  refine ⟨hj_i4v hi hx, nm_e (nm_e (hj_ifn (hj_r9z p) (fun h0 => ?_) (fun h0 => ⟨hj_v4 hi, hj_xfr (dn := []) hr h4 hv rfl ⟨hj_v4 hi, nm_e ?_⟩⟩)))⟩
  · refine ⟨R.length + 1, hj_xa49 hi hr h4 hv hp R [] se oe V O rfl hV hO (fun se' oe' h1 h2 => J se' oe' h1 (hj_em_x h2 fun k j _ _ => ?_)) _ (by omega)⟩
    try dsimp only
    rw [hj_ox, h0, Bool.false_or]
  · rw [hj_andn]
    refine ⟨R.length + 1, hj_xa49 hi hr h4 hv hp R [] se _ V _ rfl hV (hj_em_u hO hi fun j => decide (j ∈ R) && !(j == i)) (fun se' oe' h1 h2 => J se' oe' h1 (hj_em_x h2 fun k j _ _ => ?_)) _ (by omega)⟩
    try dsimp only
    rw [hj_ox, h0, Bool.true_or]
    generalize (R.any fun s => hj_pp p s && decide (f s < f j)) = z
    cases O k j <;> cases (k == i) <;> cases (j == i) <;> cases decide (j ∈ R) <;> cases z <;> rfl
theorem hj_xb98 {post : SX → Prop} {J36 : Int32 → Int32 → Int32 → Int32 → Int32 → (Nat → Int32) → (Nat → Int32) → (Nat → Int32) → (Nat → Int32) → (Nat → Int32) → (Nat → Int32) → (Nat → Int32) → (Nat → Int32) → (Nat → Int32) → (Nat → Int32) → (Nat → Int32) → Prop} {x : Nat} (hx : x < 4) (hT : T ≤ 4) (HR : ∀ i x, i < 4 → x < 4 → rd (i * 4 + x) = hj_r9 (sb i x)) (hr : hj_hd rk R) (h4 : R.length ≤ 4) (hv : ∀ v, v ∈ R → v < 4) (hp : R.Pairwise (fun a b => f a < f b)) {V O : Nat → Nat → Bool}
    (J : ∀ se' oe', hj_em se' (fun s k => V s k || (decide (k < T) && (hj_cm st k && hj_sx R (sb k x) s))) → hj_em oe' (fun k j => O k j || (decide (k < T) && (hj_cm st k && hj_ox R f (sb k x) k j))) → J36 (nI (x + 1)) (nI T) (nI K) (nI R.length) ls st wr rd od os rk ve se' oe' ed li) :
    ∀ (dd i : Nat) (se oe : Nat → Int32) (m : Nat), i + dd = T → dd < m → hj_em se (fun s k => V s k || (decide (k < i) && (hj_cm st k && hj_sx R (sb k x) s))) → hj_em oe (fun k j => O k j || (decide (k < i) && (hj_cm st k && hj_ox R f (sb k x) k j))) → wX_build_98 post J36 (nI x) m (nI i) (nI T) (nI K) (nI R.length) ls st wr rd od os rk ve se oe ed li := by
  intro dd
  induction dd with
  | zero =>
    intro i se oe m hi hm hV hO
    obtain ⟨m, rfl⟩ : ∃ r, m = r + 1 := ⟨m - 1, by omega⟩
    have e : i = T := by omega
    subst e
    simp only [wX_build_98]
    exact br_t (Int32.le_refl _) (nm_r (nI_1 x) (J se oe hV hO))
  | succ dd ih =>
    intro i se oe m hi hm hV hO
    obtain ⟨m, rfl⟩ : ∃ r, m = r + 1 := ⟨m - 1, by omega⟩
    have hi4 : i < 4 := by omega
    have hlt : ∀ k, decide (k < i + 1) = (decide (k < i) || k == i) := fun k => by
      rw [Bool.eq_iff_iff, Bool.or_eq_true, beq_iff_eq, decide_eq_true_eq, decide_eq_true_eq]
      omega
    simp only [wX_build_98]
    refine br_f (nI_ge (by omega) (by omega)) (hj_xcm hi4 (hj_bz (fun h0 => nm_r (nI_1 i) ?_) (fun h0 => ?_)))
    · refine ih (i + 1) se oe m (by omega) (by omega) (hj_em_x hV fun s k _ _ => ?_) (hj_em_x hO fun k j _ _ => ?_)
      · try dsimp only
        rw [hlt]
        by_cases e : k = i
        · rw [e, h0, Bool.false_and, Bool.and_false, Bool.and_false]
        · rw [beq_eq_false_iff_ne.mpr e, Bool.or_false]
      · try dsimp only
        rw [hlt]
        by_cases e : k = i
        · rw [e, h0, Bool.false_and, Bool.and_false, Bool.and_false]
        · rw [beq_eq_false_iff_ne.mpr e, Bool.or_false]
    · refine hj_xar hi4 hx (HR i x hi4 hx) hr h4 hv hp hV hO fun se' oe' h1 h2 => ?_
      dsimp only
      refine nm_r (nI_1 i) (ih (i + 1) se' oe' m (by omega) (by omega) (hj_em_x h1 fun s k _ _ => ?_) (hj_em_x h2 fun k j _ _ => ?_))
      · try dsimp only
        rw [hlt]
        by_cases e : k = i
        · rw [e, h0, beq_self_eq_true]
          cases V s i <;> cases decide (i < i) <;> cases hj_sx R (sb i x) s <;> rfl
        · rw [beq_eq_false_iff_ne.mpr e, Bool.or_false, Bool.and_false, Bool.or_false]
      · try dsimp only
        rw [hlt]
        by_cases e : k = i
        · rw [e, h0, beq_self_eq_true]
          cases O i j <;> cases decide (i < i) <;> cases hj_ox R f (sb i x) i j <;> rfl
        · rw [beq_eq_false_iff_ne.mpr e, Bool.or_false, Bool.false_and, Bool.or_false]
end
end
section
/-! the component's walks, third part: build -/
def hj_Rx (T : Nat) (st wr : Nat → Int32) (ol : Nat → List Nat) (x : Nat) : List Nat := hj_R T (hj_cm st) (fun i => hj_wt wr i x) (ol x)
section
variable {T K : Nat} {rc ls : Int32} {st wr rd od os rk ve se oe ed li : Nat → Int32} {sb : Nat → Nat → Nat → Bool} {ol : Nat → List Nat}
theorem hj_xb36 {post : SX → Prop} (HO : hj_ho T wr od os ol) (hT : T ≤ 4) (hK : K ≤ 4) (hc : ∀ i, hj_cm st i = true → i < T) (HR : ∀ i x, i < 4 → x < 4 → rd (i * 4 + x) = hj_r9 (sb i x))
    (J : ∀ rc rk ve se oe, hj_em ve (fun i j => hj_an K fun x => hj_vx (hj_Rx T st wr ol x) (hj_rf ol x) i j) → hj_em se (fun s k => hj_an K fun x => decide (k < T) && (hj_cm st k && hj_sx (hj_Rx T st wr ol x) (sb k x) s)) → hj_em oe (fun k j => hj_an K fun x => decide (k < T) && (hj_cm st k && hj_ox (hj_Rx T st wr ol x) (hj_rf ol x) (sb k x) k j)) → post (nI T, nI K, rc, ls, st, wr, rd, od, os, rk, ve, se, oe, ed, li)) :
    ∀ (dd x : Nat) (rc : Int32) (rk ve se oe : Nat → Int32) (m : Nat), x + dd = K → dd < m → hj_em ve (fun i j => hj_an x fun x => hj_vx (hj_Rx T st wr ol x) (hj_rf ol x) i j) → hj_em se (fun s k => hj_an x fun x => decide (k < T) && (hj_cm st k && hj_sx (hj_Rx T st wr ol x) (sb k x) s)) → hj_em oe (fun k j => hj_an x fun x => decide (k < T) && (hj_cm st k && hj_ox (hj_Rx T st wr ol x) (hj_rf ol x) (sb k x) k j)) → wX_build_36 post m (nI x) (nI T) (nI K) rc ls st wr rd od os rk ve se oe ed li := by
  have hc4 : ∀ i, hj_cm st i = true → i < 4 := fun i hi => by have := hc i hi; omega
  intro dd
  induction dd with
  | zero =>
    intro x rc rk ve se oe m hx hm h1 h2 h3
    obtain ⟨m, rfl⟩ : ∃ r, m = r + 1 := ⟨m - 1, by omega⟩
    have e : x = K := by omega
    subst e
    simp only [wX_build_36]
    exact br_t (Int32.le_refl _) (J rc rk ve se oe h1 h2 h3)
  | succ dd ih =>
    intro x rc rk ve se oe m hx hm h1 h2 h3
    obtain ⟨m, rfl⟩ : ∃ r, m = r + 1 := ⟨m - 1, by omega⟩
    have hx4 : x < 4 := by omega
    obtain ⟨_, _, hnd, _⟩ := HO x hx4
    have hl4 := hj_ho4 HO hT hx4
    have hRl : (hj_Rx T st wr ol x).length ≤ 4 := hj_R_len T hc4 hnd hl4
    have hRv : ∀ v, v ∈ hj_Rx T st wr ol x → v < 4 := fun v hv => hj_R_4 hc4 hv
    have hRp : (hj_Rx T st wr ol x).Pairwise (fun a b => hj_rf ol x a < hj_rf ol x b) := hj_R_pw hnd hl4
    simp only [wX_build_36]
    refine br_f (nI_ge (by omega) (by omega)) (hj_xrk HO hT hc4 hx4 fun rk' hr => ?_)
    dsimp only
    refine ⟨(hj_Rx T st wr ol x).length + 1, hj_xb51 (R := hj_Rx T st wr ol x) hr hRl hRv hRp (hj_Rx T st wr ol x) [] ve _ rfl h1 (fun ve' hV' => ?_) _ (by omega)⟩
    refine ⟨T + 1, hj_xb98 (R := hj_Rx T st wr ol x) (f := hj_rf ol x) (V := fun s k => hj_an x fun x => decide (k < T) && (hj_cm st k && hj_sx (hj_Rx T st wr ol x) (sb k x) s)) (O := fun k j => hj_an x fun x => decide (k < T) && (hj_cm st k && hj_ox (hj_Rx T st wr ol x) (hj_rf ol x) (sb k x) k j)) hx4 hT HR hr hRl hRv hRp (fun se' oe' h4 h5 => ?_) T 0 se oe (T + 1) (by omega) (by omega) (hj_em_x h2 fun s k _ _ => ?_) (hj_em_x h3 fun k j _ _ => ?_)⟩
    · exact ih (x + 1) _ rk' ve' se' oe' m (by omega) (by omega) hV' h4 h5
    · rw [decide_eq_false (Nat.not_lt_zero k), Bool.false_and, Bool.or_false]
    · rw [decide_eq_false (Nat.not_lt_zero k), Bool.false_and, Bool.or_false]
theorem hj_nz : vp_nar .byte 0 = 0 := by rw [vp_nar_byte]; decide
theorem hj_xb2 {post : SX → Prop}
    (J : ∀ ve se oe, hj_em ve (fun _ _ => false) → hj_em se (fun _ _ => false) → hj_em oe (fun _ _ => false) → ∃ m, wX_build_36 post m 0 (nI T) (nI K) rc ls st wr rd od os rk ve se oe ed li) :
    ∀ (dd i : Nat) (ve se oe : Nat → Int32) (m : Nat), i + dd = 4 → dd < m → (∀ k, k < i → ve k = 0 ∧ se k = 0 ∧ oe k = 0) → wX_build_2 post (nI T) (nI K) rc ls m (nI i) st wr rd od os rk ve se oe ed li := by
  intro dd
  induction dd with
  | zero =>
    intro i ve se oe m hi hm h
    obtain ⟨m, rfl⟩ : ∃ r, m = r + 1 := ⟨m - 1, by omega⟩
    have e : i = 4 := by omega
    subst e
    simp only [wX_build_2]
    exact br_t (Int32.le_refl _) (J ve se oe (fun k hk => by rw [(h k hk).1]; exact hj_mk0.symm) (fun k hk => by rw [(h k hk).2.1]; exact hj_mk0.symm) (fun k hk => by rw [(h k hk).2.2]; exact hj_mk0.symm))
  | succ dd ih =>
    intro i ve se oe m hi hm h
    obtain ⟨m, rfl⟩ : ∃ r, m = r + 1 := ⟨m - 1, by omega⟩
    have hi4 : i < 4 := by omega
    simp only [wX_build_2]
    rw [hj_c4 hi4, hj_nz]
    refine br_f (nI_ge (b := 4) hi4 (by decide)) ⟨hj_v4 hi4, nm_e ⟨hj_v4 hi4, nm_e ⟨hj_v4 hi4, nm_e (nm_r (nI_1 i) (ih (i + 1) _ _ _ m (by omega) (by omega) fun k hk => ?_))⟩⟩⟩
    by_cases e : k = i
    · rw [e, pk_us, pk_us, pk_us]; exact ⟨rfl, rfl, rfl⟩
    · rw [pk_un e, pk_un e, pk_un e]; exact h k (by omega)
theorem hj_Rm (hO : ∀ x, x < 4 → ∀ v, v ∈ ol x → hj_wt wr v x = true) (hc : ∀ i, hj_cm st i = true → i < T) {x : Nat} (hx : x < 4) (j : Nat) : decide (j ∈ hj_Rx T st wr ol x) = (hj_cm st j && hj_wt wr j x) := by
  rw [Bool.eq_iff_iff, Bool.and_eq_true, decide_eq_true_eq]
  exact hj_R_m hc (hO x hx) j
theorem hj_xbd {post : SX → Prop} (HO : hj_ho T wr od os ol) (hT : T ≤ 4) (hK : K ≤ 4) (hc : ∀ i, hj_cm st i = true → i < T) (HR : ∀ i x, i < 4 → x < 4 → rd (i * 4 + x) = hj_r9 (sb i x))
    (J : ∀ rc rk ve se oe, hj_em ve (hj_ve K (hj_cm st) (hj_wt wr) (hj_rf ol)) → hj_em se (hj_se K (hj_cm st) (hj_wt wr) sb) → hj_em oe (hj_oe K (hj_cm st) (hj_wt wr) sb (hj_rf ol)) → post (nI T, nI K, rc, ls, st, wr, rd, od, os, rk, ve, se, oe, ed, li)) : wpX_build post (nI T, nI K, rc, ls, st, wr, rd, od, os, rk, ve, se, oe, ed, li) := by
  have hm : ∀ x, x < K → ∀ j, decide (j ∈ hj_Rx T st wr ol x) = (hj_cm st j && hj_wt wr j x) := fun x hx j =>
    hj_Rm (fun x hx v hv => ((HO x hx).2.2.2 v hv).2) hc (by omega) j
  have hct : ∀ k (b : Bool), (decide (k < T) && (hj_cm st k && b)) = (hj_cm st k && b) := fun k b => by
    cases h : hj_cm st k
    · rw [Bool.false_and, Bool.and_false]
    · rw [decide_eq_true (hc k h), Bool.true_and]
  refine ⟨5, hj_xb2 (fun ve se oe h1 h2 h3 => ⟨K + 1, hj_xb36 (sb := sb) HO hT hK hc HR (fun rc rk ve se oe h4 h5 h6 => J rc rk ve se oe (hj_em_x h4 fun i j _ _ => ?_) (hj_em_x h5 fun s k _ _ => ?_) (hj_em_x h6 fun k j _ _ => ?_)) K 0 rc rk ve se oe (K + 1) (by omega) (by omega) h1 h2 h3⟩) 4 0 ve se oe 5 (by omega) (by omega) (fun k hk => absurd hk (Nat.not_lt_zero k))⟩
  · refine hj_anc fun x hx => ?_
    rw [hj_vx, hm x hx, hm x hx]
    cases hj_cm st i <;> cases hj_cm st j <;> cases hj_wt wr i x <;> cases hj_wt wr j x <;> rfl
  · refine hj_anc fun x hx => ?_
    rw [hct, hj_sx, hm x hx]
    show _ = (hj_cm st s && hj_cm st k && (hj_wt wr s x && hj_pp (sb k x) s))
    cases hj_cm st s <;> cases hj_cm st k <;> cases hj_wt wr s x <;> rfl
  · refine hj_anc fun x hx => ?_
    have ha : ((hj_Rx T st wr ol x).any fun s => hj_pp (sb k x) s && decide (hj_rf ol x s < hj_rf ol x j)) = hj_an 4 fun s => (hj_cm st s && hj_wt wr s x) && hj_sa sb k x s && decide (hj_rf ol x s < hj_rf ol x j) := by
      rw [Bool.eq_iff_iff, List.any_eq_true, hj_an_iff]
      constructor
      · rintro ⟨s, hs, h⟩
        have h7 : (hj_cm st s && hj_wt wr s x) = true := by rw [← hm x hx s]; exact decide_eq_true hs
        have h8 := hc s (by rw [Bool.and_eq_true] at h7; exact h7.1)
        refine ⟨s, by omega, ?_⟩
        rw [h7, Bool.true_and]
        exact h
      · rintro ⟨s, hs, h⟩
        rw [Bool.and_eq_true, Bool.and_eq_true] at h
        refine ⟨s, ?_, ?_⟩
        · have h7 := h.1.1
          rw [← hm x hx s] at h7
          exact of_decide_eq_true h7
        · rw [Bool.and_eq_true]
          exact ⟨h.1.2, h.2⟩
    rw [hct, hj_ox, hm x hx, ha]
    generalize (hj_an 4 fun s => (hj_cm st s && hj_wt wr s x) && hj_sa sb k x s && decide (hj_rf ol x s < hj_rf ol x j)) = z
    cases hj_cm st k <;> cases hj_cm st j <;> cases hj_wt wr j x <;> cases (j == k) <;> cases sb k x 0 <;> cases z <;> rfl
end
end
section
/-! the component's walks, fourth part: the list by the edges -/
def hj_xo (cm : Nat → Bool) (E : Nat → Nat → Bool) (r : Bool) (ls : Int32) (li : Nat → Int32) : Prop :=
  (r = true ∧ ∃ q g, hj_gp cm E q g ∧ (∀ i, cm i = true → ∃ k, k < q ∧ g k = i) ∧ ls = nI q ∧ ∀ k, k < q → li k = nI (g k)) ∨
  (r = false ∧ ∃ w : Nat → Bool, (∃ i, w i = true) ∧ (∀ i, w i = true → cm i = true) ∧ ∀ i, i < 4 → hj_fr w E i = false)
def hj_up (g : Nat → Nat) (r i k : Nat) : Nat := if k = r then i else g k
theorem hj_wk_cg {cm : Nat → Bool} {g g' : Nat → Nat} {k : Nat} (h : ∀ q, q < k → g' q = g q) : hj_wk cm g' k = hj_wk cm g k := by
  funext i
  unfold hj_wk
  rw [hj_anc (g := fun q => g q == i) fun q hq => by rw [h q hq]]
section
variable {T K : Nat} {rc ls : Int32} {st wr rd od os rk ve se oe ed li : Nat → Int32}
theorem hj_xcs {post : Int32 → Prop} (hT : T ≤ 4) (hc : ∀ i, hj_cm st i = true → i < T) (h : post (hj_mk (hj_cm st))) : wpX_committedSet post (nI T, nI K, rc, ls, st, wr, rd, od, os, rk, ve, se, oe, ed, li) := by
  have h0 : ∃ m, wX_committedSet_4 post (nI T) (nI K) rc ls st wr rd od os rk ve se oe ed li m (hj_mk fun j => decide (j < 0) && hj_cm st j) (nI 0) := by
    refine hj_lpe (P := fun m i => wX_committedSet_4 post (nI T) (nI K) rc ls st wr rd od os rk ve se oe ed li m (hj_mk fun j => decide (j < i) && hj_cm st j) (nI i)) T (fun m => ?_) (fun m i hi ih => ?_) 0 (Nat.zero_le _)
    · simp only [wX_committedSet_4]
      refine br_t (Int32.le_refl _) ?_
      rw [hj_mkx (q := hj_cm st) fun j _ => by
        cases e : hj_cm st j
        · rw [Bool.and_false]
        · rw [decide_eq_true (hc j e)]; rfl]
      exact h
    · try dsimp only at ih
      have hi4 : i < 4 := by omega
      simp only [wX_committedSet_4]
      refine br_f (nI_ge hi (by omega)) (hj_xcm hi4 (hj_bz (fun h0 => nm_r (nI_1 i) ?_) (fun h0 => nm_r (e' := hj_mk fun j => decide (j < i + 1) && hj_cm st j) ?_ (nm_r (nI_1 i) ih))))
      · rw [hj_mkx (q := fun j => decide (j < i) && hj_cm st j) fun j _ => by
          by_cases e : j = i
          · rw [e, h0, Bool.and_false, Bool.and_false]
          · rw [show decide (j < i + 1) = decide (j < i) from by
              rw [Bool.eq_iff_iff, decide_eq_true_eq, decide_eq_true_eq]; omega]] at ih
        exact ih
      · rw [hj_one hi4, hj_or]
        refine hj_mkx fun j _ => ?_
        by_cases e : j = i
        · rw [e, h0, beq_self_eq_true, Bool.or_true, decide_eq_true (show i < i + 1 by omega)]; rfl
        · rw [beq_eq_false_iff_ne.mpr e, Bool.or_false, show decide (j < i + 1) = decide (j < i) from by
            rw [Bool.eq_iff_iff, decide_eq_true_eq, decide_eq_true_eq]; omega]
  rw [hj_mkx (q := fun _ => false) fun j _ => by rw [decide_eq_false (Nat.not_lt_zero j), Bool.false_and], hj_mk0] at h0
  exact h0
theorem hj_xlf {post : Int32 → Prop} {w : Nat → Bool} {E : Nat → Nat → Bool} (hE : hj_em ed E) (J1 : ∀ i, i < 4 → hj_fr w E i = true → (∀ j, j < i → hj_fr w E j = false) → post (nI i)) (J0 : (∀ i, i < 4 → hj_fr w E i = false) → post (-1)) : wpX_leastFree post (nI T, nI K, rc, ls, st, wr, rd, od, os, rk, ve, se, oe, ed, li) (hj_mk w) := by
  have h0 : ∃ m, wX_leastFree_4 post (hj_mk w) (nI T) (nI K) rc ls st wr rd od os rk ve se oe ed li m (hj_mk fun j => hj_an 0 fun h => w h && E h j) (nI 0) := by
    refine hj_lpe (P := fun m i => wX_leastFree_4 post (hj_mk w) (nI T) (nI K) rc ls st wr rd od os rk ve se oe ed li m (hj_mk fun j => hj_an i fun h => w h && E h j) (nI i)) 4 (fun m => ?_) (fun m i hi ih => ?_) 0 (Nat.zero_le _)
    · simp only [wX_leastFree_4]
      refine br_t (Int32.le_refl _) ?_
      obtain ⟨q0, hq0⟩ := hj_lpe (P := fun q i => (∀ j, j < i → hj_fr w E j = false) → wX_leastFree_34 post (hj_mk w) (hj_mk fun j => hj_an 4 fun h => w h && E h j) (nI T) (nI K) rc ls st wr rd od os rk ve se oe ed li q (nI i)) 4 (fun q hq => by
        simp only [wX_leastFree_34]
        exact br_t (Int32.le_refl _) (J0 hq)) (fun q i hi ih2 hq => by
        simp only [wX_leastFree_34]
        rw [hj_andn]
        refine br_f (nI_ge (b := 4) hi (by decide)) (hj_ifn (hj_bit _ hi) (fun h0 => nm_r (nI_1 i) (ih2 fun j hj => ?_)) (fun h0 => J1 i hi h0 hq))
        by_cases e : j = i
        · rw [e]; exact h0
        · exact hq j (by omega)) 0 (Nat.zero_le _)
      exact ⟨q0, hq0 fun j hj => absurd hj (Nat.not_lt_zero j)⟩
    · try dsimp only at ih
      simp only [wX_leastFree_4]
      rw [hj_c4 hi, hE i hi, hj_or]
      have es : ∀ F : Nat → Bool, hj_an (i + 1) F = (hj_an i F || F i) := fun _ => rfl
      refine br_f (nI_ge (b := 4) hi (by decide)) (hj_ifn (hj_bit _ hi) (fun h0 => nm_r (nI_1 i) ?_) (fun h0 => ⟨hj_v4 hi, nm_e (nm_r (nI_1 i) ?_)⟩))
      · rw [hj_mkx (p := fun j => hj_an (i + 1) fun h => w h && E h j) (q := fun j => hj_an i fun h => w h && E h j) fun j _ => by rw [es, h0, Bool.false_and, Bool.or_false]] at ih
        exact ih
      · rw [hj_mkx (p := fun j => hj_an (i + 1) fun h => w h && E h j) (q := fun j => (hj_an i fun h => w h && E h j) || E i j) fun j _ => by rw [es, h0, Bool.true_and]] at ih
        exact ih
  have e0 : (hj_mk fun j => hj_an 0 fun h => w h && E h j) = 0 := hj_mk0
  rw [e0] at h0
  exact h0
theorem hj_xl12 {post : Int32 → SX → Prop} {E : Nat → Nat → Bool} (hc4 : ∀ i, hj_cm st i = true → i < 4) (hE : hj_em ed E)
    (J : ∀ r ls li, hj_xo (hj_cm st) E r ls li → post (hj_b r) (nI T, nI K, rc, ls, st, wr, rd, od, os, rk, ve, se, oe, ed, li)) :
    ∀ (dd r : Nat) (g : Nat → Nat) (li : Nat → Int32) (m : Nat), r + dd = 4 → dd < m → hj_gp (hj_cm st) E r g → (∀ k, k < r → li k = nI (g k)) → wX_listByEdges_12 post (nI T) (nI K) rc m (hj_mk (hj_wk (hj_cm st) g r)) (nI r) (nI r) st wr rd od os rk ve se oe ed li := by
  intro dd
  induction dd with
  | zero =>
    intro r g li m hr hm hg hl
    obtain ⟨m, rfl⟩ : ∃ r, m = r + 1 := ⟨m - 1, by omega⟩
    have e : r = 4 := by omega
    subst e
    obtain ⟨h1, h2⟩ := hj_gp_in hg
    simp only [wX_listByEdges_12]
    refine br_t (Int32.le_refl _) (J true _ _ (Or.inl ⟨rfl, 4, g, hg, fun i hi => ?_, rfl, hl⟩))
    exact hj_cov (N := 4) (p := hj_cm st) (fun k hk => ⟨hc4 _ (h1 k hk), h1 k hk⟩) h2 hj_cn_N i (hc4 i hi) hi
  | succ dd ih =>
    intro r g li m hr hm hg hl
    obtain ⟨m, rfl⟩ : ∃ r, m = r + 1 := ⟨m - 1, by omega⟩
    have hr4 : r < 4 := by omega
    simp only [wX_listByEdges_12]
    refine br_f (nI_ge (b := 4) hr4 (by decide)) ?_
    by_cases hz : ∀ i, i < 4 → hj_wk (hj_cm st) g r i = false
    · refine br_t ((hj_mz _).mpr hz) (J true _ _ (Or.inl ⟨rfl, r, g, hg, fun i hi => ?_, rfl, hl⟩))
      apply Classical.byContradiction
      intro hn
      exact hj_nt (hz i (hc4 i hi)) (hj_wk_i.mpr ⟨hi, fun q hq e => hn ⟨q, hq, e⟩⟩)
    · refine br_f (fun e => hz ((hj_mz _).mp e)) (hj_xlf hE (fun i hi h1 h2 => ?_) (fun h0 => ?_))
      · rw [hj_c4 hr4, hj_bv (by omega), hj_vbv (by omega), hj_one hi, hj_andn]
        refine br_t (nI_pos' (by omega)) ⟨hj_v4 hr4, nm_e (nm_r (nI_1 r) (nm_e (nm_r (nI_1 r) ?_)))⟩
        have hq : ∀ q, q ≠ r → (hj_up g r i) q = g q := fun q h => if_neg h
        have hs : (hj_up g r i) r = i := if_pos rfl
        have h5 := ih (r + 1) (hj_up g r i) (upd li r (nI i)) m (by omega) (by omega) (fun k hk => by
          rw [hj_wk_cg (g := g) (g' := hj_up g r i) fun q hqk => hq q (by omega)]
          by_cases e : k = r
          · subst e
            rw [hs]; exact ⟨h1, h2⟩
          · rw [hq k e]; exact hg k (by omega)) (fun k hk => by
          by_cases e : k = r
          · rw [e, pk_us, hs]
          · rw [pk_un e, hq k e]; exact hl k (by omega))
        rw [hj_mkx (q := fun j => hj_wk (hj_cm st) g r j && !(j == i)) fun j _ => by
          rw [Bool.eq_iff_iff, hj_wk_i, Bool.and_eq_true, hj_wk_i, Bool.not_eq_true', beq_eq_false_iff_ne]
          constructor
          · rintro ⟨h6, h7⟩
            refine ⟨⟨h6, fun q hq2 => ?_⟩, ?_⟩
            · have h8 := h7 q (by omega)
              rw [hq q (by omega)] at h8
              exact h8
            · have h8 := h7 r (by omega)
              rw [hs] at h8
              exact fun e => h8 e.symm
          · rintro ⟨⟨h6, h7⟩, h8⟩
            refine ⟨h6, fun q hq2 => ?_⟩
            by_cases e : q = r
            · rw [e, hs]; exact fun e => h8 e.symm
            · rw [hq q e]; exact h7 q (by omega)] at h5
        exact h5
      · refine br_f (by decide) (J false _ _ (Or.inr ⟨rfl, hj_wk (hj_cm st) g r, ?_, fun i hi => (hj_wk_i.mp hi).1, h0⟩))
        apply Classical.byContradiction
        intro hn
        exact hz fun i _ => hj_bf fun h => hn ⟨i, h⟩
theorem hj_xle {post : Int32 → SX → Prop} {E : Nat → Nat → Bool} (hT : T ≤ 4) (hc : ∀ i, hj_cm st i = true → i < T) (hE : hj_em ed E)
    (J : ∀ r ls li, hj_xo (hj_cm st) E r ls li → post (hj_b r) (nI T, nI K, rc, ls, st, wr, rd, od, os, rk, ve, se, oe, ed, li)) : wpX_listByEdges post (nI T, nI K, rc, ls, st, wr, rd, od, os, rk, ve, se, oe, ed, li) := by
  unfold wpX_listByEdges
  dsimp only
  refine hj_xcs hT hc ⟨5, ?_⟩
  have h5 := hj_xl12 (T := T) (K := K) (rc := rc) (wr := wr) (rd := rd) (od := od) (os := os) (rk := rk) (ve := ve) (se := se) (oe := oe) (fun i hi => by have := hc i hi; omega) hE J 4 0 (fun _ => 0) li 5 (by omega) (by omega) (fun k hk => absurd hk (Nat.not_lt_zero k)) (fun k hk => absurd hk (Nat.not_lt_zero k))
  rw [hj_mkx (q := hj_cm st) fun j _ => by show (_ && !false) = _; rw [Bool.not_false, Bool.and_true]] at h5
  exact h5
theorem hj_xow {post : Int32 → Prop} {w : Nat → Bool} {O : Nat → Nat → Bool} (hO : hj_em oe O) (h : post (hj_mk fun k => hj_an 4 fun j => w j && O j k)) : wpX_overwritten post (nI T, nI K, rc, ls, st, wr, rd, od, os, rk, ve, se, oe, ed, li) (hj_mk w) := by
  have h0 : ∃ m, wX_overwritten_4 post (hj_mk w) (nI T) (nI K) rc ls st wr rd od os rk ve se oe ed li m (hj_mk fun k => hj_an 0 fun j => w j && O j k) (nI 0) := by
    refine hj_lpe (P := fun m i => wX_overwritten_4 post (hj_mk w) (nI T) (nI K) rc ls st wr rd od os rk ve se oe ed li m (hj_mk fun k => hj_an i fun j => w j && O j k) (nI i)) 4 (fun m => ?_) (fun m i hi ih => ?_) 0 (Nat.zero_le _)
    · simp only [wX_overwritten_4]
      exact br_t (Int32.le_refl _) h
    · try dsimp only at ih
      simp only [wX_overwritten_4]
      rw [hj_c4 hi, hO i hi, hj_or]
      have es : ∀ F : Nat → Bool, hj_an (i + 1) F = (hj_an i F || F i) := fun _ => rfl
      refine br_f (nI_ge (b := 4) hi (by decide)) (hj_ifn (hj_bit _ hi) (fun h0 => nm_r (nI_1 i) ?_) (fun h0 => ⟨hj_v4 hi, nm_e (nm_r (nI_1 i) ?_)⟩))
      · rw [hj_mkx (p := fun k => hj_an (i + 1) fun j => w j && O j k) (q := fun k => hj_an i fun j => w j && O j k) fun k _ => by rw [es, h0, Bool.false_and, Bool.or_false]] at ih
        exact ih
      · rw [hj_mkx (p := fun k => hj_an (i + 1) fun j => w j && O j k) (q := fun k => (hj_an i fun j => w j && O j k) || O i k) fun k _ => by rw [es, h0, Bool.true_and]] at ih
        exact ih
  have e0 : (hj_mk fun k => hj_an 0 fun j => w j && O j k) = 0 := hj_mk0
  rw [e0] at h0
  exact h0
end
end
section
/-! the component's walks, fifth part: the judgements -/
def hj_xq (T K kd : Nat) (st wr : Nat → Int32) (sb : Nat → Nat → Nat → Bool) (ol : Nat → List Nat) (r : Bool) (ls : Int32) (li : Nat → Int32) : Prop :=
  ((kd ≠ 1 ∧ hj_XC T K (hj_cm st) wr sb = false) ∧ r = false) ∨
  ((kd = 1 ∨ hj_XC T K (hj_cm st) wr sb = true) ∧ hj_xo (hj_cm st) (hj_ED kd K (hj_cm st) (hj_wt wr) sb (hj_rf ol)) r ls li)
section
variable {T K : Nat} {rc ls : Int32} {st wr rd od os rk ve se oe ed li : Nat → Int32} {sb : Nat → Nat → Nat → Bool} {ol : Nat → List Nat} {V S O : Nat → Nat → Bool}
theorem hj_xl_ord {post : Int32 → SX → Prop} (hT : T ≤ 4) (hc : ∀ i, hj_cm st i = true → i < T) (hV : hj_em ve V) (H : ∀ r ls ed li, hj_xo (hj_cm st) V r ls li → post (hj_b r) (nI T, nI K, rc, ls, st, wr, rd, od, os, rk, ve, se, oe, ed, li)) :
    ∀ (dd i : Nat) (ed : Nat → Int32) (m : Nat), i + dd = 4 → dd < m → (∀ k, k < i → ed k = hj_mk (V k)) → wX_ordered_6 post (nI T) (nI K) rc ls m (nI i) st wr rd od os rk ve se oe ed li := by
  intro dd
  induction dd with
  | zero =>
    intro i ed m hi hm h
    obtain ⟨m, rfl⟩ : ∃ r, m = r + 1 := ⟨m - 1, by omega⟩
    have e : i = 4 := by omega
    subst e
    simp only [wX_ordered_6]
    refine br_t (Int32.le_refl _) (hj_xle (E := V) hT hc h fun r ls li h1 => ?_)
    dsimp only
    exact ⟨hj_bn r, H r ls ed li h1⟩
  | succ dd ih =>
    intro i ed m hi hm h
    obtain ⟨m, rfl⟩ : ∃ r, m = r + 1 := ⟨m - 1, by omega⟩
    have hi4 : i < 4 := by omega
    simp only [wX_ordered_6]
    rw [hj_c4 hi4, hV i hi4, hj_vby]
    refine br_f (nI_ge (b := 4) hi4 (by decide)) ⟨hj_v4 hi4, hj_v4 hi4, nm_e (nm_r (nI_1 i) (ih (i + 1) _ m (by omega) (by omega) fun k hk => ?_))⟩
    by_cases e : k = i
    · rw [e, pk_us]
    · rw [pk_un e]; exact h k (by omega)
theorem hj_xl_sou {post : Int32 → SX → Prop} (hT : T ≤ 4) (hc : ∀ i, hj_cm st i = true → i < T) (hV : hj_em ve V) (hS : hj_em se S) (H : ∀ r ls ed li, hj_xo (hj_cm st) (fun i j => V i j || S i j) r ls li → post (hj_b r) (nI T, nI K, rc, ls, st, wr, rd, od, os, rk, ve, se, oe, ed, li)) :
    ∀ (dd i : Nat) (ed : Nat → Int32) (m : Nat), i + dd = 4 → dd < m → (∀ k, k < i → ed k = hj_mk ((fun i j => V i j || S i j) k)) → wX_sourced_15 post (nI T) (nI K) rc ls m (nI i) st wr rd od os rk ve se oe ed li := by
  intro dd
  induction dd with
  | zero =>
    intro i ed m hi hm h
    obtain ⟨m, rfl⟩ : ∃ r, m = r + 1 := ⟨m - 1, by omega⟩
    have e : i = 4 := by omega
    subst e
    simp only [wX_sourced_15]
    refine br_t (Int32.le_refl _) (hj_xle (E := (fun i j => V i j || S i j)) hT hc h fun r ls li h1 => ?_)
    dsimp only
    exact ⟨hj_bn r, H r ls ed li h1⟩
  | succ dd ih =>
    intro i ed m hi hm h
    obtain ⟨m, rfl⟩ : ∃ r, m = r + 1 := ⟨m - 1, by omega⟩
    have hi4 : i < 4 := by omega
    simp only [wX_sourced_15]
    rw [hj_c4 hi4, hV i hi4, hS i hi4, hj_or, hj_by, hj_vby]
    refine br_f (nI_ge (b := 4) hi4 (by decide)) ⟨hj_v4 hi4, hj_v4 hi4, hj_v4 hi4, nm_e (nm_r (nI_1 i) (ih (i + 1) _ m (by omega) (by omega) fun k hk => ?_))⟩
    by_cases e : k = i
    · rw [e, pk_us]
    · rw [pk_un e]; exact h k (by omega)
theorem hj_xl_ser {post : Int32 → SX → Prop} (hT : T ≤ 4) (hc : ∀ i, hj_cm st i = true → i < T) (hV : hj_em ve V) (hS : hj_em se S) (hO : hj_em oe O) (H : ∀ r ls ed li, hj_xo (hj_cm st) (fun i j => (V i j || S i j) || O i j) r ls li → post (hj_b r) (nI T, nI K, rc, ls, st, wr, rd, od, os, rk, ve, se, oe, ed, li)) :
    ∀ (dd i : Nat) (ed : Nat → Int32) (m : Nat), i + dd = 4 → dd < m → (∀ k, k < i → ed k = hj_mk ((fun i j => (V i j || S i j) || O i j) k)) → wX_serial_15 post (nI T) (nI K) rc ls m (nI i) st wr rd od os rk ve se oe ed li := by
  intro dd
  induction dd with
  | zero =>
    intro i ed m hi hm h
    obtain ⟨m, rfl⟩ : ∃ r, m = r + 1 := ⟨m - 1, by omega⟩
    have e : i = 4 := by omega
    subst e
    simp only [wX_serial_15]
    refine br_t (Int32.le_refl _) (hj_xle (E := (fun i j => (V i j || S i j) || O i j)) hT hc h fun r ls li h1 => ?_)
    dsimp only
    exact ⟨hj_bn r, H r ls ed li h1⟩
  | succ dd ih =>
    intro i ed m hi hm h
    obtain ⟨m, rfl⟩ : ∃ r, m = r + 1 := ⟨m - 1, by omega⟩
    have hi4 : i < 4 := by omega
    simp only [wX_serial_15]
    rw [hj_c4 hi4, hV i hi4, hS i hi4, hO i hi4, hj_or, hj_or, hj_by, hj_vby]
    refine br_f (nI_ge (b := 4) hi4 (by decide)) ⟨hj_v4 hi4, hj_v4 hi4, hj_v4 hi4, hj_v4 hi4, nm_e (nm_r (nI_1 i) (ih (i + 1) _ m (by omega) (by omega) fun k hk => ?_))⟩
    by_cases e : k = i
    · rw [e, pk_us]
    · rw [pk_un e]; exact h k (by omega)
theorem hj_xl_sna {post : Int32 → SX → Prop} (hT : T ≤ 4) (hc : ∀ i, hj_cm st i = true → i < T) (hV : hj_em ve V) (hS : hj_em se S) (hO : hj_em oe O) (H : ∀ r ls ed li, hj_xo (hj_cm st) (fun i k => (V i k || S i k) || hj_an 4 fun j => (V i j || S i j) && O j k) r ls li → post (hj_b r) (nI T, nI K, rc, ls, st, wr, rd, od, os, rk, ve, se, oe, ed, li)) :
    ∀ (dd i : Nat) (ed : Nat → Int32) (m : Nat), i + dd = 4 → dd < m → (∀ k, k < i → ed k = hj_mk ((fun i k => (V i k || S i k) || hj_an 4 fun j => (V i j || S i j) && O j k) k)) → wX_snapshot_15 post (nI T) (nI K) rc ls m (nI i) st wr rd od os rk ve se oe ed li := by
  intro dd
  induction dd with
  | zero =>
    intro i ed m hi hm h
    obtain ⟨m, rfl⟩ : ∃ r, m = r + 1 := ⟨m - 1, by omega⟩
    have e : i = 4 := by omega
    subst e
    simp only [wX_snapshot_15]
    refine br_t (Int32.le_refl _) (hj_xle (E := (fun i k => (V i k || S i k) || hj_an 4 fun j => (V i j || S i j) && O j k)) hT hc h fun r ls li h1 => ?_)
    dsimp only
    exact ⟨hj_bn r, H r ls ed li h1⟩
  | succ dd ih =>
    intro i ed m hi hm h
    obtain ⟨m, rfl⟩ : ∃ r, m = r + 1 := ⟨m - 1, by omega⟩
    have hi4 : i < 4 := by omega
    simp only [wX_snapshot_15]
    rw [hj_c4 hi4, hV i hi4, hS i hi4, hj_or]
    refine br_f (nI_ge (b := 4) hi4 (by decide)) ⟨hj_v4 hi4, hj_v4 hi4, nm_e (hj_xow hO ?_)⟩
    rw [hj_or, hj_by, hj_vby]
    refine ⟨hj_v4 hi4, nm_e (nm_r (nI_1 i) (ih (i + 1) _ m (by omega) (by omega) fun k hk => ?_))⟩
    by_cases e : k = i
    · rw [e, pk_us]
    · rw [pk_un e]; exact h k (by omega)
theorem hj_xord {post : Int32 → SX → Prop} (HO : hj_ho T wr od os ol) (hT : T ≤ 4) (hK : K ≤ 4) (hc : ∀ i, hj_cm st i = true → i < T) (HR : ∀ i x, i < 4 → x < 4 → rd (i * 4 + x) = hj_r9 (sb i x))
    (H : ∀ r rc ls rk ve se oe ed li, hj_xq T K 1 st wr sb ol r ls li → post (hj_b r) (nI T, nI K, rc, ls, st, wr, rd, od, os, rk, ve, se, oe, ed, li)) : wpX_ordered post (nI T, nI K, rc, ls, st, wr, rd, od, os, rk, ve, se, oe, ed, li) := by
  unfold wpX_ordered
  dsimp only
  refine hj_xbd (sb := sb) HO hT hK hc HR fun rc rk ve se oe h1 h2 h3 => ?_
  dsimp only
  exact ⟨5, hj_xl_ord hT hc h1 (fun r ls ed li h4 => H r rc ls rk ve se oe ed li (Or.inr ⟨Or.inl rfl, h4⟩)) 4 0 ed 5 (by omega) (by omega) (fun k hk => absurd hk (Nat.not_lt_zero k))⟩
theorem hj_xsou {post : Int32 → SX → Prop} (HO : hj_ho T wr od os ol) (hT : T ≤ 4) (hK : K ≤ 4) (hc : ∀ i, hj_cm st i = true → i < T) (HR : ∀ i x, i < 4 → x < 4 → rd (i * 4 + x) = hj_r9 (sb i x))
    (H : ∀ r rc ls rk ve se oe ed li, hj_xq T K 2 st wr sb ol r ls li → post (hj_b r) (nI T, nI K, rc, ls, st, wr, rd, od, os, rk, ve, se, oe, ed, li)) : wpX_sourced post (nI T, nI K, rc, ls, st, wr, rd, od, os, rk, ve, se, oe, ed, li) := by
  unfold wpX_sourced
  dsimp only
  refine hj_xcl hT hK HR (hj_bz (fun h0 => H false rc ls rk ve se oe ed li (Or.inl ⟨⟨by decide, h0⟩, rfl⟩)) (fun h0 => hj_xbd (sb := sb) HO hT hK hc HR fun rc rk ve se oe h1 h2 h3 => ?_))
  dsimp only
  exact ⟨5, hj_xl_sou hT hc h1 h2 (fun r ls ed li h4 => H r rc ls rk ve se oe ed li (Or.inr ⟨Or.inr h0, h4⟩)) 4 0 ed 5 (by omega) (by omega) (fun k hk => absurd hk (Nat.not_lt_zero k))⟩
theorem hj_xsna {post : Int32 → SX → Prop} (HO : hj_ho T wr od os ol) (hT : T ≤ 4) (hK : K ≤ 4) (hc : ∀ i, hj_cm st i = true → i < T) (HR : ∀ i x, i < 4 → x < 4 → rd (i * 4 + x) = hj_r9 (sb i x))
    (H : ∀ r rc ls rk ve se oe ed li, hj_xq T K 3 st wr sb ol r ls li → post (hj_b r) (nI T, nI K, rc, ls, st, wr, rd, od, os, rk, ve, se, oe, ed, li)) : wpX_snapshot post (nI T, nI K, rc, ls, st, wr, rd, od, os, rk, ve, se, oe, ed, li) := by
  unfold wpX_snapshot
  dsimp only
  refine hj_xcl hT hK HR (hj_bz (fun h0 => H false rc ls rk ve se oe ed li (Or.inl ⟨⟨by decide, h0⟩, rfl⟩)) (fun h0 => hj_xbd (sb := sb) HO hT hK hc HR fun rc rk ve se oe h1 h2 h3 => ?_))
  dsimp only
  exact ⟨5, hj_xl_sna hT hc h1 h2 h3 (fun r ls ed li h4 => H r rc ls rk ve se oe ed li (Or.inr ⟨Or.inr h0, h4⟩)) 4 0 ed 5 (by omega) (by omega) (fun k hk => absurd hk (Nat.not_lt_zero k))⟩
theorem hj_xser {post : Int32 → SX → Prop} (HO : hj_ho T wr od os ol) (hT : T ≤ 4) (hK : K ≤ 4) (hc : ∀ i, hj_cm st i = true → i < T) (HR : ∀ i x, i < 4 → x < 4 → rd (i * 4 + x) = hj_r9 (sb i x))
    (H : ∀ r rc ls rk ve se oe ed li, hj_xq T K 4 st wr sb ol r ls li → post (hj_b r) (nI T, nI K, rc, ls, st, wr, rd, od, os, rk, ve, se, oe, ed, li)) : wpX_serial post (nI T, nI K, rc, ls, st, wr, rd, od, os, rk, ve, se, oe, ed, li) := by
  unfold wpX_serial
  dsimp only
  refine hj_xcl hT hK HR (hj_bz (fun h0 => H false rc ls rk ve se oe ed li (Or.inl ⟨⟨by decide, h0⟩, rfl⟩)) (fun h0 => hj_xbd (sb := sb) HO hT hK hc HR fun rc rk ve se oe h1 h2 h3 => ?_))
  dsimp only
  exact ⟨5, hj_xl_ser hT hc h1 h2 h3 (fun r ls ed li h4 => H r rc ls rk ve se oe ed li (Or.inr ⟨Or.inr h0, h4⟩)) 4 0 ed 5 (by omega) (by omega) (fun k hk => absurd hk (Nat.not_lt_zero k))⟩
end
end
section
/-! the relation and what it knows -/
def hj_iv (T K : Nat) (st wr rd sw od os : Nat → Int32) (ol : Nat → List Nat) : Prop :=
  (1 ≤ T ∧ T ≤ 4) ∧ (1 ≤ K ∧ K ≤ 4) ∧ (∀ i, st i = 1 → i < T) ∧ (∀ c, c < 16 → ∃ w, w ≤ 2 ∧ wr c = nI w) ∧
  (∀ c, c < 16 → rd c = hj_r9 (hj_sc sw c)) ∧
  (∀ i x k, i < 4 → x < 4 → k < 9 → hj_sw sw i x k = true → i < T ∧ x < K ∧ (k = 0 ∨ ∃ j, j < T ∧ j ≠ i ∧ (k = 2 * j + 1 ∨ k = 2 * j + 2))) ∧
  hj_ho T wr od os ol
theorem hj_core {a b m : Bool} {w : Nat} (hw : w ≤ 2) : (decide (hj_v2 a b = 0) || (m && decide (nI (hj_v2 a b) = nI w))) = (!(a || b) || ((m && (!a || decide (nI w = 1))) && (!b || decide (nI w = 2)))) := by
  match w, hw with
  | 0, _ => revert a b m; decide +kernel
  | 1, _ => revert a b m; decide +kernel
  | 2, _ => revert a b m; decide +kernel
section
variable {T K : Nat} {st wr rd sw od os : Nat → Int32} {ol : Nat → List Nat}
theorem hj_iv_c (H : hj_iv T K st wr rd sw od os ol) : ∀ i, hj_cm st i = true → i < T := fun i hi => H.2.2.1 i (of_decide_eq_true hi)
theorem hj_iv_r (H : hj_iv T K st wr rd sw od os ol) : ∀ i x, i < 4 → x < 4 → rd (i * 4 + x) = hj_r9 (hj_sw sw i x) := fun i x hi hx => H.2.2.2.2.1 (i * 4 + x) (by omega)
theorem hj_iv_hy (H : hj_iv T K st wr rd sw od os ol) : hj_hy K (hj_cm st) (hj_sw sw) (hj_rf ol) := by
  have hc := hj_iv_c H
  obtain ⟨⟨_, hT⟩, ⟨_, hK⟩, _, _, _, hs, ho⟩ := H
  refine ⟨hK, fun i hi => by have := hc i hi; omega, fun x i j hx e => ?_, fun i x k hi hx hk h => ?_⟩
  · exact hj_ps_inj (ol x) 0 (by have := hj_ho4 ho hT (x := x) (by omega); omega) e
  · obtain ⟨_, h2, h3⟩ := hs i x k (by have := hc i hi; omega) hx hk h
    refine ⟨h2, ?_⟩
    rcases h3 with h3 | ⟨j, _, h4, h5⟩
    · exact Or.inl h3
    · exact Or.inr ⟨j, h4, h5⟩
theorem hj_yfx (H : hj_iv T K st wr rd sw od os ol) {i x j : Nat} (hi : i < 4) (hx : x < 4) (hj : j < 4) : hj_yf (hj_cm st) wr sw (i * 4 + x) j = (!hj_cm st i || hj_xf (hj_cm st) wr (hj_sw sw i x) x j) := by
  obtain ⟨w, hw, e⟩ := H.2.2.2.1 (j * 4 + x) (by omega)
  have e1 : (i * 4 + x) / 4 = i := by omega
  have e2 : (i * 4 + x) % 4 = x := by omega
  rw [hj_yf, hj_xf, e1, e2, e, hj_core hw, hj_swc, hj_swc]
  generalize hj_sc sw (i * 4 + x) (2 * j + 1) = a
  generalize hj_sc sw (i * 4 + x) (2 * j + 2) = b
  cases hj_cm st i <;> cases a <;> cases b <;> rfl
theorem hj_clean (H : hj_iv T K st wr rd sw od os ol) : hj_XC T K (hj_cm st) wr (hj_sw sw) = hj_YC (hj_cm st) wr sw := by
  have hc := hj_iv_c H
  have hT := H.1.2
  have hK := H.2.1.2
  have hs := H.2.2.2.2.2.1
  rw [Bool.eq_iff_iff, hj_XC, hj_YC]
  simp only [hj_al_iff]
  constructor
  · intro h c hc16 j hj
    have e : c = (c / 4) * 4 + c % 4 := by omega
    rw [e, hj_yfx H (by omega) (by omega) hj]
    cases hci : hj_cm st (c / 4) with
    | false => rfl
    | true =>
      rw [Bool.not_true, Bool.false_or]
      have hiT := hc _ hci
      by_cases hn : (hj_sw sw (c / 4) (c % 4) (2 * j + 1) || hj_sw sw (c / 4) (c % 4) (2 * j + 2)) = true
      · have hk : ∃ k, (k = 2 * j + 1 ∨ k = 2 * j + 2) ∧ hj_sw sw (c / 4) (c % 4) k = true := hj_sa_i.mp hn
        obtain ⟨k, hk1, hk2⟩ := hk
        obtain ⟨_, h2, h3⟩ := hs (c / 4) (c % 4) k (by omega) (by omega) (by omega) hk2
        rcases h3 with h3 | ⟨j', h4, h5, h6⟩
        · omega
        · have e3 : j' = j := by omega
          rw [e3] at h4
          have h7 := h (c / 4) hiT (c % 4) h2
          rw [hci, Bool.not_true, Bool.false_or, hj_al_iff] at h7
          exact h7 j h4
      · rw [hj_xf, decide_eq_true ((hj_v2z _ _).mpr (hj_bf hn)), Bool.true_or]
  · intro h i hi x hx
    cases hci : hj_cm st i with
    | false => rfl
    | true =>
      rw [Bool.not_true, Bool.false_or, hj_al_iff]
      intro j hj
      have h1 := h (i * 4 + x) (by omega) j (by omega)
      rw [hj_yfx H (by omega) (by omega) (by omega), hci, Bool.not_true, Bool.false_or] at h1
      exact h1
theorem hj_iv_cl (H : hj_iv T K st wr rd sw od os ol) (h : hj_YC (hj_cm st) wr sw = true) : hj_cl (hj_cm st) (hj_wt wr) (hj_sw sw) := by
  intro i x j hi hx hj hs
  have hc := hj_iv_c H i hi
  have hT := H.1.2
  rw [hj_YC, hj_al_iff] at h
  have h1 := h (i * 4 + x) (by omega)
  rw [hj_al_iff] at h1
  have h2 := h1 j hj
  have e1 : (i * 4 + x) / 4 = i := by omega
  have e2 : (i * 4 + x) % 4 = x := by omega
  have hs2 : (hj_sc sw (i * 4 + x) (2 * j + 1) || hj_sc sw (i * 4 + x) (2 * j + 2)) = true := hs
  rw [hj_yf, e1, e2, hi, hs2, Bool.true_and, Bool.not_true, Bool.false_or, Bool.and_eq_true, Bool.and_eq_true, Bool.or_eq_true, Bool.or_eq_true, Bool.not_eq_true', Bool.not_eq_true', decide_eq_true_eq, decide_eq_true_eq] at h2
  refine ⟨h2.1.1, ?_⟩
  rw [hj_wt, decide_eq_true_eq]
  rw [Bool.or_eq_true] at hs2
  rcases hs2 with h3 | h3
  · rcases h2.1.2 with h4 | h4
    · rw [h3] at h4; exact absurd h4 (by decide)
    · rw [h4]; decide
  · rcases h2.2 with h4 | h4
    · rw [h3] at h4; exact absurd h4 (by decide)
    · rw [h4]; decide
theorem hj_join (H : hj_iv T K st wr rd sw od os ol) {kd : Nat} (hkd : kd = 1 ∨ kd = 2 ∨ kd = 3 ∨ kd = 4) {r r' : Bool} {ls : Int32} {li lj : Nat → Int32} (hx : hj_xq T K kd st wr (hj_sw sw) ol r ls li) (hy : hj_yq K kd st wr sw ol r' lj) :
    r' = r ∧ (r = true → ls = nI (hj_cn 4 (hj_cm st)) ∧ ∀ k, k < hj_cn 4 (hj_cm st) → li k = lj k) := by
  unfold hj_xq at hx
  unfold hj_yq at hy
  rw [hj_clean H] at hx
  have hyp := hj_iv_hy H
  rcases hx with ⟨⟨h1, h2⟩, h3⟩ | ⟨h1, h2⟩
  · rcases hy with ⟨_, h4⟩ | ⟨h4, _⟩
    · rw [h3, h4]
      exact ⟨rfl, fun h => nomatch h⟩
    · rcases h4 with h4 | h4
      · exact absurd h4 h1
      · rw [h4] at h2; exact nomatch h2
  · rcases hy with ⟨⟨h3, h4⟩, _⟩ | ⟨_, h4⟩
    · rcases h1 with h1 | h1
      · exact absurd h1 h3
      · rw [h4] at h1; exact nomatch h1
    · have hcl : kd = 1 ∨ hj_cl (hj_cm st) (hj_wt wr) (hj_sw sw) := by
        rcases h1 with h1 | h1
        · exact Or.inl h1
        · exact Or.inr (hj_iv_cl H h1)
      rcases h2 with ⟨hr, q, g, hg, hcv, hls, hli⟩ | ⟨hr, w, hw1, hw2, hw3⟩
      · obtain ⟨hq, c, hc4, hgd, hdg, hmin⟩ := hj_found hkd hyp hcl hg hcv
        rcases h4 with ⟨hr', c', hgd', hmin', hlj⟩ | ⟨hr', hno⟩
        · have e : c = c' := by
            have h5 := hmin c' hgd'
            rcases Nat.lt_or_ge c c' with h6 | h6
            · exact absurd hgd (hj_nt (hmin' c h6))
            · omega
          refine ⟨by rw [hr, hr'], fun _ => ⟨by rw [hls, hq], fun k hk => ?_⟩⟩
          rw [hli k (by omega), hlj k hk, ← e, hdg k hk]
        · exact absurd hgd (hj_nt (hno c hc4))
      · have hno := hj_lost hkd hyp hcl hw1 hw2 hw3
        rcases h4 with ⟨hr', c', hgd', hmin', hlj⟩ | ⟨hr', _⟩
        · exact absurd hgd' (hj_nt (hno c'))
        · exact ⟨by rw [hr, hr'], fun h => by rw [hr] at h; exact nomatch h⟩
end
end
section
/-! the calls that store, and the checks of their arguments -/
section
variable {T K : Nat} {rc ls : Int32} {st wr rd sw od os rk ve se oe ed li lj : Nat → Int32} {ol : Nat → List Nat}
theorem hj_xtb {post : Int32 → Prop} {p : Int32} (hp : p < 0 ∨ nI T ≤ p) (h : post 0) : wpX_isTransaction post (nI T, nI K, rc, ls, st, wr, rd, od, os, rk, ve, se, oe, ed, li) p := by
  unfold wpX_isTransaction
  dsimp only
  exact br_c (fun _ => h) fun hn => br_t (hp.resolve_left hn) h
theorem hj_xto {post : Int32 → Prop} {i : Nat} (hi : i < T) (hT : T ≤ 4) (h : post 1) : wpX_isTransaction post (nI T, nI K, rc, ls, st, wr, rd, od, os, rk, ve, se, oe, ed, li) (nI i) := by
  unfold wpX_isTransaction
  dsimp only
  exact br_f (nI_pos (by omega)) (br_f (nI_ge hi (by omega)) h)
theorem hj_xkb {post : Int32 → Prop} {p : Int32} (hp : p < 0 ∨ nI K ≤ p) (h : post 0) : wpX_isKey post (nI T, nI K, rc, ls, st, wr, rd, od, os, rk, ve, se, oe, ed, li) p := by
  unfold wpX_isKey
  dsimp only
  exact br_c (fun _ => h) fun hn => br_t (hp.resolve_left hn) h
theorem hj_xko {post : Int32 → Prop} {i : Nat} (hi : i < K) (hT : K ≤ 4) (h : post 1) : wpX_isKey post (nI T, nI K, rc, ls, st, wr, rd, od, os, rk, ve, se, oe, ed, li) (nI i) := by
  unfold wpX_isKey
  dsimp only
  exact br_f (nI_pos (by omega)) (br_f (nI_ge hi (by omega)) h)
theorem hj_ytb {post : Int32 → Prop} {p : Int32} (hp : p < 0 ∨ nI T ≤ p) (h : post 0) : wpY_who post (nI T, nI K, st, wr, sw, od, os, lj) p := by
  unfold wpY_who
  dsimp only
  exact br_c (fun _ => h) fun hn => br_t (hp.resolve_left hn) h
theorem hj_yto {post : Int32 → Prop} {i : Nat} (hi : i < T) (hT : T ≤ 4) (h : post 1) : wpY_who post (nI T, nI K, st, wr, sw, od, os, lj) (nI i) := by
  unfold wpY_who
  dsimp only
  exact br_f (nI_pos (by omega)) (br_f (nI_ge hi (by omega)) h)
theorem hj_ykb {post : Int32 → Prop} {p : Int32} (hp : p < 0 ∨ nI K ≤ p) (h : post 0) : wpY_what post (nI T, nI K, st, wr, sw, od, os, lj) p := by
  unfold wpY_what
  dsimp only
  exact br_c (fun _ => h) fun hn => br_t (hp.resolve_left hn) h
theorem hj_yko {post : Int32 → Prop} {i : Nat} (hi : i < K) (hT : K ≤ 4) (h : post 1) : wpY_what post (nI T, nI K, st, wr, sw, od, os, lj) (nI i) := by
  unfold wpY_what
  dsimp only
  exact br_f (nI_pos (by omega)) (br_f (nI_ge hi (by omega)) h)
theorem hj_arg (p : Int32) {N : Nat} (hN : N ≤ 4) : (p < 0 ∨ nI N ≤ p) ∨ ∃ j, j < N ∧ p = nI j := by
  rcases pk_ix p (n := N) (by omega) with h | h | h
  · exact Or.inl (Or.inl h)
  · exact Or.inl (Or.inr h)
  · exact Or.inr h
/-! the relation lasts -/
theorem hj_iv_w (H : hj_iv T K st wr rd sw od os ol) {c w : Nat} (hw : w < 2) : hj_iv T K st (upd wr c (nI (w + 1))) rd sw od os ol := by
  obtain ⟨h1, h2, h3, h4, h5, h6, h7⟩ := H
  refine ⟨h1, h2, h3, fun c' hc' => ?_, h5, h6, fun x hx => ?_⟩
  · by_cases e : c' = c
    · rw [e, pk_us]; exact ⟨w + 1, by omega, rfl⟩
    · rw [pk_un e]; exact h4 c' hc'
  · obtain ⟨g1, g2, g3, g4⟩ := h7 x hx
    refine ⟨g1, g2, g3, fun v hv => ⟨(g4 v hv).1, ?_⟩⟩
    have g5 := (g4 v hv).2
    rw [hj_wt, decide_eq_true_eq] at g5 ⊢
    by_cases e : v * 4 + x = c
    · rw [e, pk_us]; exact nI_nle (by omega) (by omega)
    · rw [pk_un e]; exact g5
theorem hj_iv_s (H : hj_iv T K st wr rd sw od os ol) {i x k : Nat} (hi : i < T) (hx : x < K) (hk : k < 9) (hj : k = 0 ∨ ∃ j, j < T ∧ j ≠ i ∧ (k = 2 * j + 1 ∨ k = 2 * j + 2)) : hj_iv T K st wr (upd rd (i * 4 + x) (vp_nar .short ((rd (i * 4 + x) ||| ((1 : Int32) <<< (nI k &&& 31))).toInt16.toInt32))) (upd sw ((i * 4 + x) * 9 + k) (vp_nar .boolean 1)) od os ol := by
  obtain ⟨h1, h2, h3, h4, h5, h6, h7⟩ := H
  have hb : ¬ (vp_nar .boolean 1 : Int32) = 0 := by
    have e : (vp_nar .boolean 1 : Int32) = 1 := rfl
    rw [e]; decide
  have hi4 : i < 4 := by omega
  have hx4 : x < 4 := by omega
  refine ⟨h1, h2, h3, h4, fun c hc => ?_, fun a b q ha hb2 hq h => ?_, h7⟩
  · by_cases e : c = i * 4 + x
    · subst e
      rw [pk_us, h5 _ hc, hj_r9o (q := hj_sc (upd sw ((i * 4 + x) * 9 + k) (vp_nar .boolean 1)) (i * 4 + x)) hk ?_ (fun j hj9 hne => ?_), hj_r9s]
      · rw [hj_sc, pk_us]; exact decide_eq_true hb
      · rw [hj_sc, pk_un (by omega)]; rfl
    · rw [pk_un e, h5 c hc]
      refine hj_r9x fun j hj9 => ?_
      rw [hj_sc, hj_sc, pk_un (by omega)]
  · by_cases e : (a * 4 + b) * 9 + q = (i * 4 + x) * 9 + k
    · have e1 : a = i := by omega
      have e2 : b = x := by omega
      have e3 : q = k := by omega
      rw [e1, e2, e3]
      exact ⟨hi, hx, hj⟩
    · refine h6 a b q ha hb2 hq ?_
      rw [hj_sw, pk_un e] at h
      exact h
theorem hj_iv_t (H : hj_iv T K st wr rd sw od os ol) {i : Nat} (hi : i < T) (v : Int32) : hj_iv T K (upd st i v) wr rd sw od os ol := by
  obtain ⟨h1, h2, h3, h4, h5, h6, h7⟩ := H
  refine ⟨h1, h2, fun j hj => ?_, h4, h5, h6, h7⟩
  by_cases e : j = i
  · rw [e]; exact hi
  · rw [pk_un e] at hj; exact h3 j hj
def hj_oa (ol : Nat → List Nat) (x i y : Nat) : List Nat := if y = x then ol x ++ [i] else ol y
theorem hj_iv_o (H : hj_iv T K st wr rd sw od os ol) {i x : Nat} (hi : i < T) (hx : x < K) (hn : i ∉ ol x) (hw : hj_wt wr i x = true) (h4l : (ol x).length < 4) : hj_iv T K st wr rd sw (upd od (x * 4 + (ol x).length) (nI i)) (upd os x (nI ((ol x).length + 1))) (hj_oa ol x i) := by
  obtain ⟨h1, h2, h3, h4, h5, h6, h7⟩ := H
  refine ⟨h1, h2, h3, h4, h5, h6, fun y hy => ?_⟩
  obtain ⟨g1, g2, g3, g4⟩ := h7 y hy
  by_cases e : y = x
  · subst e
    have eo : hj_oa ol y i y = ol y ++ [i] := if_pos rfl
    rw [eo]
    refine ⟨by rw [pk_us, List.length_append, List.length_singleton], fun k v hk => ?_, ?_, fun v hv => ?_⟩
    · by_cases e2 : k = (ol y).length
      · rw [e2, List.getElem?_concat_length] at hk
        rw [e2, pk_us, Option.some.inj hk]
      · have hl : k < (ol y ++ [i]).length := (List.getElem?_eq_some_iff.mp hk).1
        rw [List.length_append, List.length_singleton] at hl
        rw [List.getElem?_append_left (by omega)] at hk
        rw [pk_un (by omega)]
        exact g2 k v hk
    · refine List.nodup_append.mpr ⟨g3, List.nodup_cons.mpr ⟨by simp, List.nodup_nil⟩, fun a ha b hb => ?_⟩
      rw [List.mem_singleton] at hb
      rw [hb]
      exact fun e3 => hn (by rw [← e3]; exact ha)
    · rcases List.mem_append.mp hv with hv | hv
      · exact g4 v hv
      · rw [List.mem_singleton] at hv
        rw [hv]; exact ⟨hi, hw⟩
  · have eo : hj_oa ol x i y = ol y := if_neg e
    rw [eo, pk_un e]
    refine ⟨g1, fun k v hk => ?_, g3, g4⟩
    have hl : k < (ol y).length := (List.getElem?_eq_some_iff.mp hk).1
    have hl4 := hj_ho4 h7 h1.2 hy
    rw [pk_un (by omega)]
    exact g2 k v hk
/-! install: the component's search -/
theorem hj_xin {post : Int32 → SX → Prop} {x i : Nat} {l : List Nat} (hx : x < 4) (hi : i < 4) (hos : os x = nI l.length) (hod : ∀ k v, l[k]? = some v → od (x * 4 + k) = nI v) (hnd : l.Nodup) (hv : ∀ v, v ∈ l → v < 4)
    (J1 : i ∈ l → post (-4) (nI T, nI K, rc, ls, st, wr, rd, od, os, rk, ve, se, oe, ed, li)) (J0 : i ∉ l → l.length < 4 → post 0 (nI T, nI K, rc, ls, st, wr, rd, upd od (x * 4 + l.length) (nI i), upd os x (nI (l.length + 1)), rk, ve, se, oe, ed, li)) :
    ∀ (rs dn : List Nat), l = dn ++ rs → i ∉ dn → ∀ m, rs.length < m → wX_install_44 post (nI x) (nI i) (nI l.length) (nI T) (nI K) rc ls st wr rd od os rk ve se oe ed li m (nI dn.length) := by
  have hl4 : l.length ≤ 4 := hj_nd4 hnd hv
  intro rs
  induction rs with
  | nil =>
    intro dn e hni m hm
    obtain ⟨m, rfl⟩ : ∃ r, m = r + 1 := ⟨m - 1, by omega⟩
    rw [List.append_nil] at e
    subst e
    have hlt : l.length < 4 := by
      have h5 : (i :: l).length ≤ 4 := hj_nd4 (List.nodup_cons.mpr ⟨hni, hnd⟩) fun v hv2 => by
        rcases List.mem_cons.mp hv2 with h | h
        · rw [h]; exact hi
        · exact hv v h
      rw [List.length_cons] at h5
      omega
    simp only [wX_install_44]
    rw [hj_i4c hx hlt, hj_c4 hx, hos, nI_1, hj_bv (by omega), hj_vbv (by omega), hj_bv (by omega), hj_vbv (by omega)]
    exact br_t (Int32.le_refl _) (br_f (nI_ge (b := 4) hlt (by decide)) ⟨hj_i4v hx hlt, nm_e ⟨hj_v4 hx, hj_v4 hx, nm_e (J0 hni hlt)⟩⟩)
  | cons v rs ih =>
    intro dn e hni m hm
    obtain ⟨m, rfl⟩ : ∃ r, m = r + 1 := ⟨m - 1, by omega⟩
    have hl : l.length = dn.length + (rs.length + 1) := by rw [e, List.length_append, List.length_cons]
    have hvl : v ∈ l := by rw [e]; exact List.mem_append_right _ List.mem_cons_self
    have hvm : v < 4 := hv v hvl
    have hlk := hod dn.length v (hj_mid e)
    simp only [wX_install_44]
    rw [hj_i4c hx (k := dn.length) (by omega), hlk]
    refine br_f (nI_ge (by omega) (by omega)) ⟨hj_i4v hx (by omega), pk_eq v i (fun h => J1 (by rw [← h]; exact hvl)) (fun h => nm_r (nI_1 _) ?_)⟩
    have h5 := ih (dn ++ [v]) (by rw [e, List.append_assoc]; rfl) (fun hm2 => by
      rcases List.mem_append.mp hm2 with h6 | h6
      · exact hni h6
      · rw [List.mem_singleton] at h6; exact h h6.symm) m (by rw [List.length_cons] at hm; omega)
    rw [List.length_append, List.length_singleton] at h5
    exact h5
end
end
section
/-! what is owed, first part -/
/-- near equality: the same fates, writes and orders; the component's read sets are the bits that the reference saw; the rest is scratch -/
def i_Rel (k : Nat) (u : SX) (v : SY) : Prop := ∃ (T K : Nat) (rc ls : Int32) (st wr rd sw od os rk ve se oe ed li lj : Nat → Int32) (ol : Nat → List Nat), u = (nI T, nI K, rc, ls, st, wr, rd, od, os, rk, ve, se, oe, ed, li) ∧ v = (nI T, nI K, st, wr, sw, od, os, lj) ∧ hj_iv T K st wr rd sw od os ol
theorem hj_el {k : Nat} {P : SX → SY → Prop} (h : ∀ (T K : Nat) (rc ls : Int32) (st wr rd sw od os rk ve se oe ed li lj : Nat → Int32) (ol : Nat → List Nat), hj_iv T K st wr rd sw od os ol → P (nI T, nI K, rc, ls, st, wr, rd, od, os, rk, ve, se, oe, ed, li) (nI T, nI K, st, wr, sw, od, os, lj)) {u : SX} {v : SY} (I : i_Rel k u v) : P u v := by
  obtain ⟨T, K, rc, ls, st, wr, rd, sw, od, os, rk, ve, se, oe, ed, li, lj, ol, rfl, rfl, hi⟩ := I
  exact h T K rc ls st wr rd sw od os rk ve se oe ed li lj ol hi
theorem hj_in {k T K : Nat} {rc ls : Int32} {st wr rd sw od os rk ve se oe ed li lj : Nat → Int32} {ol : Nat → List Nat} (hi : hj_iv T K st wr rd sw od os ol) : i_Rel k (nI T, nI K, rc, ls, st, wr, rd, od, os, rk, ve, se, oe, ed, li) (nI T, nI K, st, wr, sw, od, os, lj) :=
  ⟨T, K, rc, ls, st, wr, rd, sw, od, os, rk, ve, se, oe, ed, li, lj, ol, rfl, rfl, hi⟩
theorem i_up {k : Nat} {u : SX} {v : SY} (h : i_Rel k u v) : i_Rel (k + 5) u v := h
theorem hj_r90 : hj_r9 (fun _ => false) = 0 := by decide +kernel
theorem hj_iv0 {T K : Nat} (hT : 1 ≤ T ∧ T ≤ 4) (hK : 1 ≤ K ∧ K ≤ 4) : hj_iv T K (fun _ => 0) (fun _ => 0) (fun _ => 0) (fun _ => 0) (fun _ => 0) (fun _ => 0) (fun _ => []) := by
  refine ⟨hT, hK, fun i h => ?_, fun c _ => ⟨0, by omega, rfl⟩, fun c _ => ?_, fun i x k _ _ _ h => ?_, fun x _ => ⟨rfl, fun k v h => ?_, List.nodup_nil, fun v h => ?_⟩⟩
  · exact absurd (show (0 : Int32) = 1 from h) (by decide)
  · rw [hj_r9x (q := fun _ => false) fun k _ => ?_, hj_r90]
    rw [hj_sc]
    exact decide_eq_false fun h => h rfl
  · rw [hj_sw, decide_eq_true_eq] at h
    exact absurd rfl h
  · exact absurd h (by simp)
  · exact absurd h (by simp)
def hj_cp (p : Int32) (N : Nat) : Prop := (1 ≤ N ∧ N ≤ 4) ∧ ((¬ 1 ≤ p ∧ N = 1) ∨ (1 ≤ p ∧ ¬ p ≤ 4 ∧ N = 4) ∨ (1 ≤ p ∧ p ≤ 4 ∧ p = nI N))
theorem hj_cp_ex (p : Int32) : ∃ N, hj_cp p N := by
  by_cases h1 : 1 ≤ p
  · by_cases h4 : p ≤ 4
    · have h0 : ¬ p < 0 := by
        rw [Int32.lt_iff_toInt_lt]
        rw [Int32.le_iff_toInt_le] at h1
        have e1 : (1 : Int32).toInt = 1 := by decide
        have e0 : (0 : Int32).toInt = 0 := by decide
        omega
      obtain ⟨N, hN, rfl⟩ := nI_of h0
      have g1 : nI 1 ≤ nI N := h1
      have g4 : nI N ≤ nI 4 := h4
      rw [nI_leI (by omega) hN] at g1
      rw [nI_leI hN (by omega)] at g4
      exact ⟨N, ⟨g1, g4⟩, Or.inr (Or.inr ⟨h1, h4, rfl⟩)⟩
    · exact ⟨4, ⟨by omega, by omega⟩, Or.inr (Or.inl ⟨h1, h4, rfl⟩)⟩
  · exact ⟨1, ⟨by omega, by omega⟩, Or.inl ⟨h1, rfl⟩⟩
theorem hj_xi {post : SX → Prop} {p0 p1 : Int32} {T K : Nat} (hT : hj_cp p0 T) (hK : hj_cp p1 K) (h : post (nI T, nI K, 0, 0, (fun _ => 0), (fun _ => 0), (fun _ => 0), (fun _ => 0), (fun _ => 0), (fun _ => 0), (fun _ => 0), (fun _ => 0), (fun _ => 0), (fun _ => 0), (fun _ => 0))) : wpX_init post p0 p1 := by
  unfold wpX_init wX_init_104
  obtain ⟨_, ⟨h1, rfl⟩ | ⟨h1, h2, rfl⟩ | ⟨h1, h2, rfl⟩⟩ := hT
  · obtain ⟨_, ⟨g1, rfl⟩ | ⟨g1, g2, rfl⟩ | ⟨g1, g2, rfl⟩⟩ := hK
    · exact br_f h1 (br_f g1 h)
    · exact br_f h1 (br_t g1 (br_f g2 h))
    · exact br_f h1 (br_t g1 (br_t g2 h))
  · obtain ⟨_, ⟨g1, rfl⟩ | ⟨g1, g2, rfl⟩ | ⟨g1, g2, rfl⟩⟩ := hK
    · exact br_t h1 (br_f h2 (br_f g1 h))
    · exact br_t h1 (br_f h2 (br_t g1 (br_f g2 h)))
    · exact br_t h1 (br_f h2 (br_t g1 (br_t g2 h)))
  · obtain ⟨_, ⟨g1, rfl⟩ | ⟨g1, g2, rfl⟩ | ⟨g1, g2, rfl⟩⟩ := hK
    · exact br_t h1 (br_t h2 (br_f g1 h))
    · exact br_t h1 (br_t h2 (br_t g1 (br_f g2 h)))
    · exact br_t h1 (br_t h2 (br_t g1 (br_t g2 h)))
theorem hj_yi {post : SY → Prop} {p0 p1 : Int32} {T K : Nat} (hT : hj_cp p0 T) (hK : hj_cp p1 K) (h : post (nI T, nI K, (fun _ => 0), (fun _ => 0), (fun _ => 0), (fun _ => 0), (fun _ => 0), (fun _ => 0))) : wpY_init post p0 p1 := by
  unfold wpY_init wY_init_70
  obtain ⟨_, ⟨h1, rfl⟩ | ⟨h1, h2, rfl⟩ | ⟨h1, h2, rfl⟩⟩ := hT
  · obtain ⟨_, ⟨g1, rfl⟩ | ⟨g1, g2, rfl⟩ | ⟨g1, g2, rfl⟩⟩ := hK
    · exact br_f h1 (br_f g1 h)
    · exact br_f h1 (br_t g1 (br_f g2 h))
    · exact br_f h1 (br_t g1 (br_t g2 h))
  · obtain ⟨_, ⟨g1, rfl⟩ | ⟨g1, g2, rfl⟩ | ⟨g1, g2, rfl⟩⟩ := hK
    · exact br_t h1 (br_f h2 (br_f g1 h))
    · exact br_t h1 (br_f h2 (br_t g1 (br_f g2 h)))
    · exact br_t h1 (br_f h2 (br_t g1 (br_t g2 h)))
  · obtain ⟨_, ⟨g1, rfl⟩ | ⟨g1, g2, rfl⟩ | ⟨g1, g2, rfl⟩⟩ := hK
    · exact br_t h1 (br_t h2 (br_f g1 h))
    · exact br_t h1 (br_t h2 (br_t g1 (br_f g2 h)))
    · exact br_t h1 (br_t h2 (br_t g1 (br_t g2 h)))
theorem i_vc0 (k0 : Int32) (k1 : Int32) : wpX_init (fun u => wpY_init (fun v => i_Rel 2 u v) k0 k1) k0 k1 := by
  obtain ⟨T, hT⟩ := hj_cp_ex k0
  obtain ⟨K, hK⟩ := hj_cp_ex k1
  exact hj_xi hT hK (hj_yi hT hK (hj_in (hj_iv0 hT.1 hK.1)))
theorem i_vc_write {k : Nat} {u : SX} {v : SY} (I : i_Rel k u v) (hk : k + 5 ≤ 2562) (v1 : Int32) (v2 : Int32) : wpX_write (fun r u' => wpY_write (fun r' v' => r' = r ∧ i_Rel (k + 5) u' v') v v1 v2) u v1 v2 := by
  refine hj_el (P := fun u v => wpX_write (fun r u' => wpY_write (fun r' v' => r' = r ∧ i_Rel (k + 5) u' v') v v1 v2) u v1 v2) ?_ I
  intro T K rc ls st wr rd sw od os rk ve se oe ed li lj ol H
  have hT := H.1.2
  have hK := H.2.1.2
  have fin : i_Rel (k + 5) (nI T, nI K, rc, ls, st, wr, rd, od, os, rk, ve, se, oe, ed, li) (nI T, nI K, st, wr, sw, od, os, lj) := hj_in H
  unfold wpX_write
  dsimp only
  rcases hj_arg v1 hT with h1 | ⟨i, hi, rfl⟩
  · refine hj_xtb h1 (br_t rfl ?_)
    unfold wpY_write
    dsimp only
    exact hj_ytb h1 (br_t rfl ⟨rfl, fin⟩)
  · refine hj_xto hi hT (br_f (by decide) ?_)
    rcases hj_arg v2 hK with h2 | ⟨x, hx, rfl⟩
    · refine hj_xkb h2 (br_t rfl ?_)
      unfold wpY_write
      dsimp only
      exact hj_yto hi hT (br_f (by decide) (hj_ykb h2 (br_t rfl ⟨rfl, fin⟩)))
    · have hi4 : i < 4 := by omega
      have hx4 : x < 4 := by omega
      obtain ⟨w, hw, ew⟩ := H.2.2.2.1 (i * 4 + x) (by omega)
      have hv16 : vp_in (nI (i * 4 + x)) 16 := vp_in_nI (by omega) (by omega)
      refine hj_xko hx hK (br_f (by decide) ?_)
      rw [hj_c4 hi4]
      refine ⟨hj_v4 hi4, ?_⟩
      by_cases hs : st i = 0
      · refine br_t hs (nm_r (hj_i4 i x) ?_)
        rw [nI_clamp (n := i * 4 + x) (by omega), ew, nI_1, hj_bv (by omega), hj_vbv (by omega)]
        refine ⟨hv16, pk_lt w 2 (fun h2 => ⟨hv16, hv16, nm_e ⟨hv16, ?_⟩⟩) (fun h2 => ?_)⟩
        · rw [pk_us]
          unfold wpY_write
          dsimp only
          refine hj_yto hi hT (br_f (by decide) (hj_yko hx hK (br_f (by decide) ?_)))
          rw [hj_c4 hi4, hj_i4c hi4 hx4, ew, nI_1]
          refine ⟨hj_v4 hi4, br_t hs ⟨hj_i4v hi4 hx4, br_t (nI_lt (b := 2) h2 (by decide)) ⟨hj_i4v hi4 hx4, hj_i4v hi4 hx4, nm_e ⟨hj_i4v hi4 hx4, ?_, hj_in (hj_iv_w H h2)⟩⟩⟩⟩
          rw [pk_us]
        · unfold wpY_write
          dsimp only
          refine hj_yto hi hT (br_f (by decide) (hj_yko hx hK (br_f (by decide) ?_)))
          rw [hj_c4 hi4, hj_i4c hi4 hx4, ew]
          exact ⟨hj_v4 hi4, br_t hs ⟨hj_i4v hi4 hx4, br_f (nI_nlt (b := 2) h2 (by omega)) ⟨rfl, fin⟩⟩⟩
      · refine br_f hs ?_
        unfold wpY_write
        dsimp only
        refine hj_yto hi hT (br_f (by decide) (hj_yko hx hK (br_f (by decide) ?_)))
        rw [hj_c4 hi4]
        exact ⟨hj_v4 hi4, br_f hs ⟨rfl, fin⟩⟩
theorem i_vc_read {k : Nat} {u : SX} {v : SY} (I : i_Rel k u v) (hk : k + 5 ≤ 2562) (v1 : Int32) (v2 : Int32) (v3 : Int32) (v4 : Int32) : wpX_read (fun r u' => wpY_read (fun r' v' => r' = r ∧ i_Rel (k + 5) u' v') v v1 v2 v3 v4) u v1 v2 v3 v4 := by
  refine hj_el (P := fun u v => wpX_read (fun r u' => wpY_read (fun r' v' => r' = r ∧ i_Rel (k + 5) u' v') v v1 v2 v3 v4) u v1 v2 v3 v4) ?_ I
  intro T K rc ls st wr rd sw od os rk ve se oe ed li lj ol H
  have hT := H.1.2
  have hK := H.2.1.2
  have fin : i_Rel (k + 5) (nI T, nI K, rc, ls, st, wr, rd, od, os, rk, ve, se, oe, ed, li) (nI T, nI K, st, wr, sw, od, os, lj) := hj_in H
  unfold wpX_read
  dsimp only
  rcases hj_arg v1 hT with h1 | ⟨i, hi, rfl⟩
  · refine hj_xtb h1 (br_t rfl ?_)
    unfold wpY_read
    dsimp only
    exact hj_ytb h1 (br_t rfl ⟨rfl, fin⟩)
  · refine hj_xto hi hT (br_f (by decide) ?_)
    rcases hj_arg v3 hT with h3 | ⟨j, hj, rfl⟩
    · refine hj_xtb h3 (br_t rfl ?_)
      unfold wpY_read
      dsimp only
      exact hj_yto hi hT (br_f (by decide) (hj_ytb h3 (br_t rfl ⟨rfl, fin⟩)))
    · refine hj_xto hj hT (br_f (by decide) ?_)
      rcases hj_arg v2 hK with h2 | ⟨x, hx, rfl⟩
      · refine hj_xkb h2 (br_t rfl ?_)
        unfold wpY_read
        dsimp only
        exact hj_yto hi hT (br_f (by decide) (hj_yto hj hT (br_f (by decide) (hj_ykb h2 (br_t rfl ⟨rfl, fin⟩)))))
      · have hi4 : i < 4 := by omega
        have hj4 : j < 4 := by omega
        have hx4 : x < 4 := by omega
        obtain ⟨w, hw, ew⟩ := H.2.2.2.1 (j * 4 + x) (by omega)
        have hv16 : vp_in (nI (i * 4 + x)) 16 := vp_in_nI (by omega) (by omega)
        refine hj_xko hx hK (br_f (by decide) ?_)
        rw [hj_c4 hi4, hj_i4c hj4 hx4, ew]
        refine pk_eq i j (fun e => ?_) (fun e => ⟨hj_v4 hi4, ?_⟩)
        · unfold wpY_read
          dsimp only
          exact hj_yto hi hT (br_f (by decide) (hj_yto hj hT (br_f (by decide) (hj_yko hx hK (br_f (by decide) (br_t (by rw [e]) ⟨rfl, fin⟩))))))
        · have ne : ¬ nI i = nI j := fun h => e ((nI_eq (by omega) (by omega)).mp h)
          by_cases hs : st i = 0
          · refine br_t hs ?_
            by_cases h41 : v4 < 1
            · refine br_t h41 ?_
              unfold wpY_read
              dsimp only
              refine hj_yto hi hT (br_f (by decide) (hj_yto hj hT (br_f (by decide) (hj_yko hx hK (br_f (by decide) (br_f ne ?_))))))
              rw [hj_c4 hi4]
              exact ⟨hj_v4 hi4, br_t hs (br_t h41 ⟨rfl, fin⟩)⟩
            · have h0 : ¬ v4 < 0 := fun h => h41 (Int32.lt_trans h (by decide))
              obtain ⟨q, hq, rfl⟩ := nI_of h0
              have hq1 : 1 ≤ q := by
                rcases Nat.eq_zero_or_pos q with h | h
                · rw [h] at h41; exact absurd (show (nI 0) < 1 by decide) h41
                · exact h
              refine br_f h41 ⟨hj_i4v hj4 hx4, pk_le q w (fun h5 => ?_) (fun h5 => ?_)⟩
              · have e9 : 2 * nI j + nI q = nI (2 * j + q) := by rw [hj_2j, nI_add]
                rw [e9]
                refine nm_e (nm_r (hj_i4 i x) ?_)
                rw [nI_clamp (n := i * 4 + x) (by omega)]
                refine ⟨hv16, hv16, nm_e ?_⟩
                unfold wpY_read
                dsimp only
                refine hj_yto hi hT (br_f (by decide) (hj_yto hj hT (br_f (by decide) (hj_yko hx hK (br_f (by decide) (br_f ne ?_))))))
                rw [hj_c4 hi4, hj_i4c hj4 hx4, ew, hj_i4 i x, hj_xv, hj_c144 (by omega)]
                exact ⟨hj_v4 hi4, br_t hs (br_f h41 (br_f (nI_nlt (a := 2) (by omega) (by decide)) ⟨hj_i4v hj4 hx4, br_t (nI_le h5 (by omega)) ⟨hj_v144 (by omega), nm_e ⟨rfl, hj_in (hj_iv_s H hi hx (by omega) (Or.inr ⟨j, hj, fun e2 => e e2.symm, by omega⟩))⟩⟩⟩))⟩
              · unfold wpY_read
                dsimp only
                refine hj_yto hi hT (br_f (by decide) (hj_yto hj hT (br_f (by decide) (hj_yko hx hK (br_f (by decide) (br_f ne ?_))))))
                rw [hj_c4 hi4, hj_i4c hj4 hx4, ew]
                exact ⟨hj_v4 hi4, br_t hs (br_f h41 (br_c (fun _ => ⟨rfl, fin⟩) (fun _ => ⟨hj_i4v hj4 hx4, br_f (nI_ge h5 hq) ⟨rfl, fin⟩⟩)))⟩
          · refine br_f hs ?_
            unfold wpY_read
            dsimp only
            refine hj_yto hi hT (br_f (by decide) (hj_yto hj hT (br_f (by decide) (hj_yko hx hK (br_f (by decide) (br_f ne ?_))))))
            rw [hj_c4 hi4]
            exact ⟨hj_v4 hi4, br_f hs ⟨rfl, fin⟩⟩
theorem i_vc_readGround {k : Nat} {u : SX} {v : SY} (I : i_Rel k u v) (hk : k + 5 ≤ 2562) (v1 : Int32) (v2 : Int32) : wpX_readGround (fun r u' => wpY_readGround (fun r' v' => r' = r ∧ i_Rel (k + 5) u' v') v v1 v2) u v1 v2 := by
  refine hj_el (P := fun u v => wpX_readGround (fun r u' => wpY_readGround (fun r' v' => r' = r ∧ i_Rel (k + 5) u' v') v v1 v2) u v1 v2) ?_ I
  intro T K rc ls st wr rd sw od os rk ve se oe ed li lj ol H
  have hT := H.1.2
  have hK := H.2.1.2
  have fin : i_Rel (k + 5) (nI T, nI K, rc, ls, st, wr, rd, od, os, rk, ve, se, oe, ed, li) (nI T, nI K, st, wr, sw, od, os, lj) := hj_in H
  unfold wpX_readGround
  dsimp only
  rcases hj_arg v1 hT with h1 | ⟨i, hi, rfl⟩
  · refine hj_xtb h1 (br_t rfl ?_)
    unfold wpY_readGround
    dsimp only
    exact hj_ytb h1 (br_t rfl ⟨rfl, fin⟩)
  · refine hj_xto hi hT (br_f (by decide) ?_)
    rcases hj_arg v2 hK with h2 | ⟨x, hx, rfl⟩
    · refine hj_xkb h2 (br_t rfl ?_)
      unfold wpY_readGround
      dsimp only
      exact hj_yto hi hT (br_f (by decide) (hj_ykb h2 (br_t rfl ⟨rfl, fin⟩)))
    · have hi4 : i < 4 := by omega
      have hx4 : x < 4 := by omega
      have hv16 : vp_in (nI (i * 4 + x)) 16 := vp_in_nI (by omega) (by omega)
      refine hj_xko hx hK (br_f (by decide) ?_)
      rw [hj_c4 hi4]
      refine ⟨hj_v4 hi4, ?_⟩
      by_cases hs : st i = 0
      · refine br_t hs (nm_r (hj_i4 i x) ?_)
        rw [nI_clamp (n := i * 4 + x) (by omega), show (1 : Int32) = (1 : Int32) <<< (nI 0 &&& 31) by decide +kernel]
        refine ⟨hv16, hv16, nm_e ?_⟩
        unfold wpY_readGround
        dsimp only
        refine hj_yto hi hT (br_f (by decide) (hj_yko hx hK (br_f (by decide) ?_)))
        rw [hj_c4 hi4, hj_s9, hj_c144 (by omega)]
        exact ⟨hj_v4 hi4, br_t hs ⟨hj_v144 (by omega), nm_e ⟨rfl, hj_in (hj_iv_s (k := 0) H hi hx (by omega) (Or.inl rfl))⟩⟩⟩
      · refine br_f hs ?_
        unfold wpY_readGround
        dsimp only
        refine hj_yto hi hT (br_f (by decide) (hj_yko hx hK (br_f (by decide) ?_)))
        rw [hj_c4 hi4]
        exact ⟨hj_v4 hi4, br_f hs ⟨rfl, fin⟩⟩
theorem i_vc_install {k : Nat} {u : SX} {v : SY} (I : i_Rel k u v) (hk : k + 5 ≤ 2562) (v1 : Int32) (v2 : Int32) : wpX_install (fun r u' => wpY_install (fun r' v' => r' = r ∧ i_Rel (k + 5) u' v') v v1 v2) u v1 v2 := by
  refine hj_el (P := fun u v => wpX_install (fun r u' => wpY_install (fun r' v' => r' = r ∧ i_Rel (k + 5) u' v') v v1 v2) u v1 v2) ?_ I
  intro T K rc ls st wr rd sw od os rk ve se oe ed li lj ol H
  have hT := H.1.2
  have hK := H.2.1.2
  have fin : i_Rel (k + 5) (nI T, nI K, rc, ls, st, wr, rd, od, os, rk, ve, se, oe, ed, li) (nI T, nI K, st, wr, sw, od, os, lj) := hj_in H
  unfold wpX_install
  dsimp only
  rcases hj_arg v2 hT with h1 | ⟨i, hi, rfl⟩
  · refine hj_xtb h1 (br_t rfl ?_)
    unfold wpY_install
    dsimp only
    exact hj_ytb h1 (br_t rfl ⟨rfl, fin⟩)
  · refine hj_xto hi hT (br_f (by decide) ?_)
    rcases hj_arg v1 hK with h2 | ⟨x, hx, rfl⟩
    · refine hj_xkb h2 (br_t rfl ?_)
      unfold wpY_install
      dsimp only
      exact hj_yto hi hT (br_f (by decide) (hj_ykb h2 (br_t rfl ⟨rfl, fin⟩)))
    · have hi4 : i < 4 := by omega
      have hx4 : x < 4 := by omega
      have HO := H.2.2.2.2.2.2
      obtain ⟨g1, g2, g3, g4⟩ := HO x hx4
      obtain ⟨w, hw, ew⟩ := H.2.2.2.1 (i * 4 + x) (by omega)
      have hlen := hj_ho4 HO hT hx4
      refine hj_xko hx hK (br_f (by decide) ?_)
      rw [hj_i4c hi4 hx4, hj_c4 hx4, ew, g1]
      refine ⟨hj_i4v hi4 hx4, pk_eq w 0 (fun h0 => ?_) (fun h0 => ⟨hj_v4 hx4, nm_e ⟨(ol x).length + 1, ?_⟩⟩)⟩
      · unfold wpY_install
        dsimp only
        refine hj_yto hi hT (br_f (by decide) (hj_yko hx hK (br_f (by decide) ?_)))
        rw [hj_i4c hi4 hx4, ew]
        exact ⟨hj_i4v hi4 hx4, br_t (by rw [h0]; rfl) ⟨rfl, fin⟩⟩
      · have hwt : hj_wt wr i x = true := by
          rw [hj_wt, ew]; exact decide_eq_true (nI_nle (by omega) (by omega))
        refine hj_xin hx4 hi4 g1 g2 g3 (fun v hv => by have := (g4 v hv).1; omega) (fun hm => ?_) (fun hm hl => ?_) (ol x) [] rfl (by simp) _ (by omega)
        · unfold wpY_install
          dsimp only
          refine hj_yto hi hT (br_f (by decide) (hj_yko hx hK (br_f (by decide) ?_)))
          rw [hj_i4c hi4 hx4, ew]
          refine ⟨hj_i4v hi4 hx4, br_f (nI_ne0 (by omega) (by omega)) (hj_yrk HO hT hx4 hi4 (br_t ?_ ⟨rfl, fin⟩))⟩
          have h5 := hj_ps_in (ol x) 0 hm
          exact nI_lt (b := 4) (show hj_rf ol x i < 4 by unfold hj_rf; omega) (by decide)
        · unfold wpY_install
          dsimp only
          refine hj_yto hi hT (br_f (by decide) (hj_yko hx hK (br_f (by decide) ?_)))
          rw [hj_i4c hi4 hx4, ew]
          refine ⟨hj_i4v hi4 hx4, br_f (nI_ne0 (by omega) (by omega)) (hj_yrk HO hT hx4 hi4 (br_f ?_ ?_))⟩
          · have h5 := hj_ps_out (ol x) 0 hm
            have h6 := hj_rf8 HO hT hx4 hi4
            exact nI_nlt (b := 4) (show 4 ≤ hj_rf ol x i by unfold hj_rf; omega) (by omega)
          · rw [hj_c4 hx4, g1, hj_i4c hx4 hl, nI_1]
            exact ⟨hj_v4 hx4, br_t (nI_lt (b := 4) hl (by decide)) ⟨hj_v4 hx4, hj_i4v hx4 hl, nm_e ⟨hj_v4 hx4, hj_v4 hx4, nm_e ⟨rfl, hj_in (hj_iv_o H hi hx hm hwt hl)⟩⟩⟩⟩
end
section
/-! what is owed, second part -/
section
variable {T K : Nat} {rc ls : Int32} {st wr rd sw od os rk ve se oe ed li lj : Nat → Int32} {ol : Nat → List Nat}
theorem hj_xclb {post : Int32 → SX → Prop} {p s : Int32} (hp : p < 0 ∨ nI T ≤ p) (h : post (-1) (nI T, nI K, rc, ls, st, wr, rd, od, os, rk, ve, se, oe, ed, li)) : wpX_close post (nI T, nI K, rc, ls, st, wr, rd, od, os, rk, ve, se, oe, ed, li) p s := by
  unfold wpX_close
  dsimp only
  exact hj_xtb hp (br_t rfl h)
theorem hj_xclo {post : Int32 → SX → Prop} {i q : Nat} (hi : i < T) (hT : T ≤ 4) (hq : q < 8) (h0 : st i = 0 → post 0 (nI T, nI K, rc, ls, upd st i (nI q), wr, rd, od, os, rk, ve, se, oe, ed, li)) (h1 : ¬ st i = 0 → post (-2) (nI T, nI K, rc, ls, st, wr, rd, od, os, rk, ve, se, oe, ed, li)) : wpX_close post (nI T, nI K, rc, ls, st, wr, rd, od, os, rk, ve, se, oe, ed, li) (nI i) (nI q) := by
  unfold wpX_close
  dsimp only
  refine hj_xto hi hT (br_f (by decide) ?_)
  rw [hj_c4 (by omega), hj_bv hq, hj_vbv hq]
  exact ⟨hj_v4 (by omega), br_c (fun h => ⟨hj_v4 (by omega), nm_e (h0 h)⟩) h1⟩
theorem hj_yclb {post : Int32 → SY → Prop} {p s : Int32} (hp : p < 0 ∨ nI T ≤ p) (h : post (-1) (nI T, nI K, st, wr, sw, od, os, lj)) : wpY_close post (nI T, nI K, st, wr, sw, od, os, lj) p s := by
  unfold wpY_close
  dsimp only
  exact hj_ytb hp (br_t rfl h)
theorem hj_yclo {post : Int32 → SY → Prop} {i : Nat} {s : Int32} (hi : i < T) (hT : T ≤ 4) (h0 : st i = 0 → post 0 (nI T, nI K, upd st i s, wr, sw, od, os, lj)) (h1 : ¬ st i = 0 → post (-2) (nI T, nI K, st, wr, sw, od, os, lj)) : wpY_close post (nI T, nI K, st, wr, sw, od, os, lj) (nI i) s := by
  unfold wpY_close
  dsimp only
  refine hj_yto hi hT (br_f (by decide) ?_)
  rw [hj_c4 (by omega)]
  exact ⟨hj_v4 (by omega), br_c (fun h => ⟨hj_v4 (by omega), nm_e (h0 h)⟩) h1⟩
theorem hj_xls (H : hj_iv T K st wr rd sw od os ol) {kd : Nat} (hkd : kd = 1 ∨ kd = 2 ∨ kd = 3 ∨ kd = 4) {ls : Int32} {li : Nat → Int32} (hx : hj_xq T K kd st wr (hj_sw sw) ol true ls li) : ls = nI (hj_cn 4 (hj_cm st)) := by
  unfold hj_xq at hx
  rw [hj_clean H] at hx
  rcases hx with ⟨_, h3⟩ | ⟨h1, h2⟩
  · exact nomatch h3
  · have hcl : kd = 1 ∨ hj_cl (hj_cm st) (hj_wt wr) (hj_sw sw) := by
      rcases h1 with h1 | h1
      · exact Or.inl h1
      · exact Or.inr (hj_iv_cl H h1)
    rcases h2 with ⟨_, q, g, hg, hcv, hls, _⟩ | ⟨hr, _⟩
    · obtain ⟨hq, _⟩ := hj_found hkd (hj_iv_hy H) hcl hg hcv
      rw [hls, hq]
    · exact nomatch hr
/-! a judgement by its number, 0 to 4 -/
def hj_xk (T K kd : Nat) (st wr : Nat → Int32) (sb : Nat → Nat → Nat → Bool) (ol : Nat → List Nat) (r : Bool) : Prop :=
  (kd = 0 ∧ r = hj_XC T K (hj_cm st) wr sb) ∨ (kd ≠ 0 ∧ ∃ ls li, hj_xq T K kd st wr sb ol r ls li)
def hj_yk (K kd : Nat) (st wr sw : Nat → Int32) (ol : Nat → List Nat) (r : Bool) : Prop :=
  (kd = 0 ∧ r = hj_YC (hj_cm st) wr sw) ∨ (kd ≠ 0 ∧ ∃ lj, hj_yq K kd st wr sw ol r lj)
theorem hj_jk (H : hj_iv T K st wr rd sw od os ol) {kd : Nat} (hkd : kd ≤ 4) {r r' : Bool} (hx : hj_xk T K kd st wr (hj_sw sw) ol r) (hy : hj_yk K kd st wr sw ol r') : r' = r := by
  rcases hx with ⟨h1, h2⟩ | ⟨h1, ls, li, h2⟩
  · rcases hy with ⟨_, h3⟩ | ⟨h3, _⟩
    · rw [h2, h3, hj_clean H]
    · exact absurd h1 h3
  · rcases hy with ⟨h3, _⟩ | ⟨_, lj, h3⟩
    · exact absurd h3 h1
    · exact (hj_join H (by omega) h2 h3).1
theorem hj_xof {post : Int32 → SX → Prop} (H : hj_iv T K st wr rd sw od os ol) {kd : Nat} (hkd : kd ≤ 4)
    (J : ∀ r rc ls rk ve se oe ed li, hj_xk T K kd st wr (hj_sw sw) ol r → post (hj_b r) (nI T, nI K, rc, ls, st, wr, rd, od, os, rk, ve, se, oe, ed, li)) : wpX_ofKind post (nI T, nI K, rc, ls, st, wr, rd, od, os, rk, ve, se, oe, ed, li) (nI kd) := by
  have hT := H.1.2
  have hK := H.2.1.2
  have hc := hj_iv_c H
  have HR := hj_iv_r H
  have HO := H.2.2.2.2.2.2
  unfold wpX_ofKind
  dsimp only
  match kd, hkd with
  | 0, _ => exact br_t rfl (hj_xcl hT hK HR ⟨hj_bn _, J _ rc ls rk ve se oe ed li (Or.inl ⟨rfl, rfl⟩)⟩)
  | 1, _ =>
    refine br_f (by decide) (br_t rfl (hj_xord HO hT hK hc HR fun r rc ls rk ve se oe ed li h => ?_))
    exact ⟨hj_bn _, J r rc ls rk ve se oe ed li (Or.inr ⟨by decide, ls, li, h⟩)⟩
  | 2, _ =>
    refine br_f (by decide) (br_f (by decide) (br_t rfl (hj_xsou HO hT hK hc HR fun r rc ls rk ve se oe ed li h => ?_)))
    exact ⟨hj_bn _, J r rc ls rk ve se oe ed li (Or.inr ⟨by decide, ls, li, h⟩)⟩
  | 3, _ =>
    refine br_f (by decide) (br_f (by decide) (br_f (by decide) (br_t rfl (hj_xsna HO hT hK hc HR fun r rc ls rk ve se oe ed li h => ?_))))
    exact ⟨hj_bn _, J r rc ls rk ve se oe ed li (Or.inr ⟨by decide, ls, li, h⟩)⟩
  | 4, _ =>
    refine br_f (by decide) (br_f (by decide) (br_f (by decide) (br_f (by decide) (hj_xser HO hT hK hc HR fun r rc ls rk ve se oe ed li h => ?_))))
    exact ⟨hj_bn _, J r rc ls rk ve se oe ed li (Or.inr ⟨by decide, ls, li, h⟩)⟩
theorem hj_y101 {post : Int32 → SY → Prop} {i : Nat} (hi : i < 4) (h : post (-4) (nI T, nI K, upd st i 2, wr, sw, od, os, lj)) : wY_commitIf_101 post (nI i) (nI T) (nI K) st wr sw od os lj := by
  unfold wY_commitIf_101 wY_commitIf_102
  rw [hj_c4 hi]
  exact br_t rfl ⟨hj_v4 hi, nm_e h⟩
theorem hj_y97 {post : Int32 → SY → Prop} {i : Nat} (h : post 0 (nI T, nI K, st, wr, sw, od, os, lj)) : wY_commitIf_97 post (nI i) (nI T) (nI K) st wr sw od os lj := by
  unfold wY_commitIf_97 wY_commitIf_102
  exact br_f (by decide) h
theorem hj_y85 {post : Int32 → SY → Prop} {i kd : Nat} (hi : i < 4) (hk : kd < 4) (h : post (-4) (nI T, nI K, upd st i 2, wr, sw, od, os, lj)) : wY_commitIf_85 post (nI i) (nI kd) (nI T) (nI K) st wr sw od os lj := by
  unfold wY_commitIf_85
  exact br_f (fun e => by have e2 := (nI_eq (b := 4) (by omega) (by decide)).mp e; omega) (hj_y101 hi h)
theorem hj_y73 {post : Int32 → SY → Prop} {i kd : Nat} (hi : i < 4) (hk : kd < 3) (h : post (-4) (nI T, nI K, upd st i 2, wr, sw, od, os, lj)) : wY_commitIf_73 post (nI i) (nI kd) (nI T) (nI K) st wr sw od os lj := by
  unfold wY_commitIf_73
  exact br_f (fun e => by have e2 := (nI_eq (b := 3) (by omega) (by decide)).mp e; omega) (hj_y85 hi (by omega) h)
theorem hj_y61 {post : Int32 → SY → Prop} {i kd : Nat} (hi : i < 4) (hk : kd < 2) (h : post (-4) (nI T, nI K, upd st i 2, wr, sw, od, os, lj)) : wY_commitIf_61 post (nI i) (nI kd) (nI T) (nI K) st wr sw od os lj := by
  unfold wY_commitIf_61
  exact br_f (fun e => by have e2 := (nI_eq (b := 2) (by omega) (by decide)).mp e; omega) (hj_y73 hi (by omega) h)
theorem hj_y49 {post : Int32 → SY → Prop} {i : Nat} (hi : i < 4) (h : post (-4) (nI T, nI K, upd st i 2, wr, sw, od, os, lj)) : wY_commitIf_49 post (nI i) (nI 0) (nI T) (nI K) st wr sw od os lj := by
  unfold wY_commitIf_49
  exact br_f (by decide) (hj_y61 hi (by omega) h)
theorem hj_yof {post : Int32 → SY → Prop} (H : hj_iv T K st wr rd sw od os ol) {i kd : Nat} (hi : i < 4) (hkd : kd ≤ 4)
    (J : ∀ r lj, hj_yk K kd st wr sw ol r → (r = true → post 0 (nI T, nI K, st, wr, sw, od, os, lj)) ∧ (r = false → post (-4) (nI T, nI K, upd st i 2, wr, sw, od, os, lj))) :
    (nI kd = 0 → wpY_clean (fun r => (r = 0 → wY_commitIf_49 post (nI i) (nI kd) (nI T) (nI K) st wr sw od os lj) ∧ (¬ r = 0 → wY_commitIf_97 post (nI i) (nI T) (nI K) st wr sw od os lj)) (nI T, nI K, st, wr, sw, od, os, lj)) ∧ (¬ nI kd = 0 → wY_commitIf_49 post (nI i) (nI kd) (nI T) (nI K) st wr sw od os lj) := by
  have hT := H.1.2
  have hK := H.2.1.2
  have HO := H.2.2.2.2.2.2
  match kd, hkd with
  | 0, _ =>
    have h1 := J _ lj (Or.inl ⟨rfl, rfl⟩)
    exact br_t rfl (hj_ycl (hj_bz (fun h0 => hj_y49 hi (h1.2 h0)) (fun h0 => hj_y97 (h1.1 h0))))
  | 1, _ =>
    refine br_f (by decide) ?_
    unfold wY_commitIf_49
    refine br_t rfl (hj_yord HO hT hK fun r lj h => ?_)
    have h1 := J r lj (Or.inr ⟨by decide, lj, h⟩)
    exact hj_bz (fun h0 => hj_y61 hi (by omega) (h1.2 h0)) (fun h0 => hj_y97 (h1.1 h0))
  | 2, _ =>
    refine br_f (by decide) ?_
    unfold wY_commitIf_49 wY_commitIf_61
    refine br_f (by decide) (br_t rfl (hj_ysou HO hT hK fun r lj h => ?_))
    have h1 := J r lj (Or.inr ⟨by decide, lj, h⟩)
    exact hj_bz (fun h0 => hj_y73 hi (by omega) (h1.2 h0)) (fun h0 => hj_y97 (h1.1 h0))
  | 3, _ =>
    refine br_f (by decide) ?_
    unfold wY_commitIf_49 wY_commitIf_61 wY_commitIf_73
    refine br_f (by decide) (br_f (by decide) (br_t rfl (hj_ysna HO hT hK fun r lj h => ?_)))
    have h1 := J r lj (Or.inr ⟨by decide, lj, h⟩)
    exact hj_bz (fun h0 => hj_y85 hi (by omega) (h1.2 h0)) (fun h0 => hj_y97 (h1.1 h0))
  | 4, _ =>
    refine br_f (by decide) ?_
    unfold wY_commitIf_49 wY_commitIf_61 wY_commitIf_73 wY_commitIf_85
    refine br_f (by decide) (br_f (by decide) (br_f (by decide) (br_t rfl (hj_yser HO hT hK fun r lj h => ?_))))
    have h1 := J r lj (Or.inr ⟨by decide, lj, h⟩)
    exact hj_bz (fun h0 => hj_y101 hi (h1.2 h0)) (fun h0 => hj_y97 (h1.1 h0))
end
theorem i_vc_commit {k : Nat} {u : SX} {v : SY} (I : i_Rel k u v) (hk : k + 5 ≤ 2562) (v1 : Int32) : wpX_commit (fun r u' => wpY_commit (fun r' v' => r' = r ∧ i_Rel (k + 5) u' v') v v1) u v1 := by
  refine hj_el (P := fun u v => wpX_commit (fun r u' => wpY_commit (fun r' v' => r' = r ∧ i_Rel (k + 5) u' v') v v1) u v1) ?_ I
  intro T K rc ls st wr rd sw od os rk ve se oe ed li lj ol H
  have hT := H.1.2
  have hK := H.2.1.2
  have hc := hj_iv_c H
  have HR := hj_iv_r H
  have HO := H.2.2.2.2.2.2
  have fin : i_Rel (k + 5) (nI T, nI K, rc, ls, st, wr, rd, od, os, rk, ve, se, oe, ed, li) (nI T, nI K, st, wr, sw, od, os, lj) := hj_in H
  unfold wpX_commit
  dsimp only
  rcases hj_arg v1 hT with h1 | ⟨i, hi, rfl⟩
  · refine hj_xclb h1 ?_
    unfold wpY_commit
    dsimp only
    exact hj_yclb h1 ⟨rfl, fin⟩
  · refine hj_xclo (q := 1) hi hT (by decide) (fun h0 => ?_) (fun h0 => ?_)
    · unfold wpY_commit
      dsimp only
      exact hj_yclo hi hT (fun _ => ⟨rfl, hj_in (hj_iv_t H hi _)⟩) (fun h => absurd h0 h)
    · unfold wpY_commit
      dsimp only
      exact hj_yclo hi hT (fun h => absurd h h0) (fun _ => ⟨rfl, fin⟩)
theorem i_vc_abort {k : Nat} {u : SX} {v : SY} (I : i_Rel k u v) (hk : k + 5 ≤ 2562) (v1 : Int32) : wpX_abort (fun r u' => wpY_abort (fun r' v' => r' = r ∧ i_Rel (k + 5) u' v') v v1) u v1 := by
  refine hj_el (P := fun u v => wpX_abort (fun r u' => wpY_abort (fun r' v' => r' = r ∧ i_Rel (k + 5) u' v') v v1) u v1) ?_ I
  intro T K rc ls st wr rd sw od os rk ve se oe ed li lj ol H
  have hT := H.1.2
  have hK := H.2.1.2
  have hc := hj_iv_c H
  have HR := hj_iv_r H
  have HO := H.2.2.2.2.2.2
  have fin : i_Rel (k + 5) (nI T, nI K, rc, ls, st, wr, rd, od, os, rk, ve, se, oe, ed, li) (nI T, nI K, st, wr, sw, od, os, lj) := hj_in H
  unfold wpX_abort
  dsimp only
  rcases hj_arg v1 hT with h1 | ⟨i, hi, rfl⟩
  · refine hj_xclb h1 ?_
    unfold wpY_abort
    dsimp only
    exact hj_yclb h1 ⟨rfl, fin⟩
  · refine hj_xclo (q := 2) hi hT (by decide) (fun h0 => ?_) (fun h0 => ?_)
    · unfold wpY_abort
      dsimp only
      exact hj_yclo hi hT (fun _ => ⟨rfl, hj_in (hj_iv_t H hi _)⟩) (fun h => absurd h0 h)
    · unfold wpY_abort
      dsimp only
      exact hj_yclo hi hT (fun h => absurd h h0) (fun _ => ⟨rfl, fin⟩)
theorem i_vc_state {k : Nat} {u : SX} {v : SY} (I : i_Rel k u v) (hk : k + 5 ≤ 2562) (v1 : Int32) : wpX_state (fun r => wpY_state (fun r' => r' = r ∧ i_Rel (k + 5) u v) v v1) u v1 := by
  refine hj_el (P := fun u v => wpX_state (fun r => wpY_state (fun r' => r' = r ∧ i_Rel (k + 5) u v) v v1) u v1) ?_ I
  intro T K rc ls st wr rd sw od os rk ve se oe ed li lj ol H
  have hT := H.1.2
  have hK := H.2.1.2
  have hc := hj_iv_c H
  have HR := hj_iv_r H
  have HO := H.2.2.2.2.2.2
  have fin : i_Rel (k + 5) (nI T, nI K, rc, ls, st, wr, rd, od, os, rk, ve, se, oe, ed, li) (nI T, nI K, st, wr, sw, od, os, lj) := hj_in H
  unfold wpX_state
  dsimp only
  rcases hj_arg v1 hT with h1 | ⟨i, hi, rfl⟩
  · refine hj_xtb h1 (br_t rfl ?_)
    unfold wpY_state
    dsimp only
    exact hj_ytb h1 (br_t rfl ⟨rfl, fin⟩)
  · refine hj_xto hi hT (br_f (by decide) ⟨hj_v4 (by omega), ?_⟩)
    unfold wpY_state
    dsimp only
    exact hj_yto hi hT (br_f (by decide) ⟨hj_v4 (by omega), rfl, fin⟩)
theorem i_vc_clean {k : Nat} {u : SX} {v : SY} (I : i_Rel k u v) (hk : k + 5 ≤ 2562) : wpX_clean (fun r => wpY_clean (fun r' => r' = r ∧ i_Rel (k + 5) u v) v) u := by
  refine hj_el (P := fun u v => wpX_clean (fun r => wpY_clean (fun r' => r' = r ∧ i_Rel (k + 5) u v) v) u) ?_ I
  intro T K rc ls st wr rd sw od os rk ve se oe ed li lj ol H
  have hT := H.1.2
  have hK := H.2.1.2
  have hc := hj_iv_c H
  have HR := hj_iv_r H
  have HO := H.2.2.2.2.2.2
  have fin : i_Rel (k + 5) (nI T, nI K, rc, ls, st, wr, rd, od, os, rk, ve, se, oe, ed, li) (nI T, nI K, st, wr, sw, od, os, lj) := hj_in H
  exact hj_xcl hT hK HR (hj_ycl ⟨by rw [hj_clean H], fin⟩)
theorem i_vc_ordered {k : Nat} {u : SX} {v : SY} (I : i_Rel k u v) (hk : k + 5 ≤ 2562) : wpX_ordered (fun r u' => wpY_ordered (fun r' v' => r' = r ∧ i_Rel (k + 5) u' v') v) u := by
  refine hj_el (P := fun u v => wpX_ordered (fun r u' => wpY_ordered (fun r' v' => r' = r ∧ i_Rel (k + 5) u' v') v) u) ?_ I
  intro T K rc ls st wr rd sw od os rk ve se oe ed li lj ol H
  have hT := H.1.2
  have hK := H.2.1.2
  have hc := hj_iv_c H
  have HR := hj_iv_r H
  have HO := H.2.2.2.2.2.2
  have fin : i_Rel (k + 5) (nI T, nI K, rc, ls, st, wr, rd, od, os, rk, ve, se, oe, ed, li) (nI T, nI K, st, wr, sw, od, os, lj) := hj_in H
  refine hj_xord HO hT hK hc HR fun r rc ls rk ve se oe ed li h1 => hj_yord HO hT hK fun r' lj h2 => ?_
  exact ⟨by rw [(hj_join H (by decide) h1 h2).1], hj_in H⟩
theorem i_vc_sourced {k : Nat} {u : SX} {v : SY} (I : i_Rel k u v) (hk : k + 5 ≤ 2562) : wpX_sourced (fun r u' => wpY_sourced (fun r' v' => r' = r ∧ i_Rel (k + 5) u' v') v) u := by
  refine hj_el (P := fun u v => wpX_sourced (fun r u' => wpY_sourced (fun r' v' => r' = r ∧ i_Rel (k + 5) u' v') v) u) ?_ I
  intro T K rc ls st wr rd sw od os rk ve se oe ed li lj ol H
  have hT := H.1.2
  have hK := H.2.1.2
  have hc := hj_iv_c H
  have HR := hj_iv_r H
  have HO := H.2.2.2.2.2.2
  have fin : i_Rel (k + 5) (nI T, nI K, rc, ls, st, wr, rd, od, os, rk, ve, se, oe, ed, li) (nI T, nI K, st, wr, sw, od, os, lj) := hj_in H
  refine hj_xsou HO hT hK hc HR fun r rc ls rk ve se oe ed li h1 => hj_ysou HO hT hK fun r' lj h2 => ?_
  exact ⟨by rw [(hj_join H (by decide) h1 h2).1], hj_in H⟩
theorem i_vc_snapshot {k : Nat} {u : SX} {v : SY} (I : i_Rel k u v) (hk : k + 5 ≤ 2562) : wpX_snapshot (fun r u' => wpY_snapshot (fun r' v' => r' = r ∧ i_Rel (k + 5) u' v') v) u := by
  refine hj_el (P := fun u v => wpX_snapshot (fun r u' => wpY_snapshot (fun r' v' => r' = r ∧ i_Rel (k + 5) u' v') v) u) ?_ I
  intro T K rc ls st wr rd sw od os rk ve se oe ed li lj ol H
  have hT := H.1.2
  have hK := H.2.1.2
  have hc := hj_iv_c H
  have HR := hj_iv_r H
  have HO := H.2.2.2.2.2.2
  have fin : i_Rel (k + 5) (nI T, nI K, rc, ls, st, wr, rd, od, os, rk, ve, se, oe, ed, li) (nI T, nI K, st, wr, sw, od, os, lj) := hj_in H
  refine hj_xsna HO hT hK hc HR fun r rc ls rk ve se oe ed li h1 => hj_ysna HO hT hK fun r' lj h2 => ?_
  exact ⟨by rw [(hj_join H (by decide) h1 h2).1], hj_in H⟩
theorem i_vc_serial {k : Nat} {u : SX} {v : SY} (I : i_Rel k u v) (hk : k + 5 ≤ 2562) : wpX_serial (fun r u' => wpY_serial (fun r' v' => r' = r ∧ i_Rel (k + 5) u' v') v) u := by
  refine hj_el (P := fun u v => wpX_serial (fun r u' => wpY_serial (fun r' v' => r' = r ∧ i_Rel (k + 5) u' v') v) u) ?_ I
  intro T K rc ls st wr rd sw od os rk ve se oe ed li lj ol H
  have hT := H.1.2
  have hK := H.2.1.2
  have hc := hj_iv_c H
  have HR := hj_iv_r H
  have HO := H.2.2.2.2.2.2
  have fin : i_Rel (k + 5) (nI T, nI K, rc, ls, st, wr, rd, od, os, rk, ve, se, oe, ed, li) (nI T, nI K, st, wr, sw, od, os, lj) := hj_in H
  refine hj_xser HO hT hK hc HR fun r rc ls rk ve se oe ed li h1 => hj_yser HO hT hK fun r' lj h2 => ?_
  exact ⟨by rw [(hj_join H (by decide) h1 h2).1], hj_in H⟩
theorem i_vc_commitIf {k : Nat} {u : SX} {v : SY} (I : i_Rel k u v) (hk : k + 5 ≤ 2562) (v1 : Int32) (v2 : Int32) : wpX_commitIf (fun r u' => wpY_commitIf (fun r' v' => r' = r ∧ i_Rel (k + 5) u' v') v v1 v2) u v1 v2 := by
  refine hj_el (P := fun u v => wpX_commitIf (fun r u' => wpY_commitIf (fun r' v' => r' = r ∧ i_Rel (k + 5) u' v') v v1 v2) u v1 v2) ?_ I
  intro T K rc ls st wr rd sw od os rk ve se oe ed li lj ol H
  have hT := H.1.2
  have hK := H.2.1.2
  have hc := hj_iv_c H
  have HR := hj_iv_r H
  have HO := H.2.2.2.2.2.2
  have fin : i_Rel (k + 5) (nI T, nI K, rc, ls, st, wr, rd, od, os, rk, ve, se, oe, ed, li) (nI T, nI K, st, wr, sw, od, os, lj) := hj_in H
  unfold wpX_commitIf
  dsimp only
  rcases hj_arg v1 hT with h1 | ⟨i, hi, rfl⟩
  · refine hj_xtb h1 (br_t rfl ?_)
    unfold wpY_commitIf
    dsimp only
    exact hj_ytb h1 (br_t rfl ⟨rfl, fin⟩)
  · have hi4 : i < 4 := by omega
    refine hj_xto hi hT (br_f (by decide) ?_)
    by_cases h0 : v2 < 0
    · refine br_t h0 ?_
      unfold wpY_commitIf
      dsimp only
      exact hj_yto hi hT (br_f (by decide) (br_t h0 ⟨rfl, fin⟩))
    · refine br_f h0 ?_
      by_cases h4 : v2 ≤ 4
      · obtain ⟨kd, hkd, rfl⟩ := nI_of2 (M := 4) (n := 4) (by decide) h0 h4
        refine br_t h4 (hj_xclo (q := 1) hi hT (by decide) (fun hs => ?_) (fun hs => ?_))
        · have H1 := hj_iv_t H hi (nI 1)
          refine br_t rfl (hj_xof H1 hkd fun r rc ls rk ve se oe ed li hx => ?_)
          rw [hj_c4 hi4]
          have ye : ∀ post : Int32 → SY → Prop, (∀ r' lj, hj_yk K kd (upd st i (nI 1)) wr sw ol r' → (r' = true → post 0 (nI T, nI K, upd st i (nI 1), wr, sw, od, os, lj)) ∧ (r' = false → post (-4) (nI T, nI K, upd (upd st i (nI 1)) i 2, wr, sw, od, os, lj))) → wpY_commitIf post (nI T, nI K, st, wr, sw, od, os, lj) (nI i) (nI kd) := by
            intro post J
            unfold wpY_commitIf
            dsimp only
            refine hj_yto hi hT (br_f (by decide) (br_f h0 (br_t h4 ?_)))
            rw [hj_c4 hi4]
            exact ⟨hj_v4 hi4, br_t hs ⟨hj_v4 hi4, nm_e (hj_yof H1 hi4 hkd J)⟩⟩
          refine hj_bz (fun hr => ⟨hj_v4 hi4, nm_r (e' := upd (upd st i (nI 1)) i 2) (by rw [show vp_nar .byte 2 = 2 from hj_vbv (v := 2) (by decide)]) ?_⟩) (fun hr => ?_)
          · refine ye _ fun r' lj hy => ?_
            have e := hj_jk H1 hkd hx hy
            exact ⟨fun h => by rw [e, hr] at h; exact (nomatch h), fun _ => ⟨rfl, hj_in (hj_iv_t H1 hi 2)⟩⟩
          · refine ye _ fun r' lj hy => ?_
            have e := hj_jk H1 hkd hx hy
            exact ⟨fun _ => ⟨rfl, hj_in H1⟩, fun h => by rw [e, hr] at h; exact nomatch h⟩
        · refine br_f (by decide) ?_
          unfold wpY_commitIf
          dsimp only
          refine hj_yto hi hT (br_f (by decide) (br_f h0 (br_t h4 ?_)))
          rw [hj_c4 hi4]
          exact ⟨hj_v4 hi4, br_f hs ⟨rfl, fin⟩⟩
      · refine br_f h4 ?_
        unfold wpY_commitIf
        dsimp only
        exact hj_yto hi hT (br_f (by decide) (br_f h0 (br_f h4 ⟨rfl, fin⟩)))
theorem i_vc_serialAt {k : Nat} {u : SX} {v : SY} (I : i_Rel k u v) (hk : k + 5 ≤ 2562) (v1 : Int32) : wpX_serialAt (fun r u' => wpY_serialAt (fun r' v' => r' = r ∧ i_Rel (k + 5) u' v') v v1) u v1 := by
  refine hj_el (P := fun u v => wpX_serialAt (fun r u' => wpY_serialAt (fun r' v' => r' = r ∧ i_Rel (k + 5) u' v') v v1) u v1) ?_ I
  intro T K rc ls st wr rd sw od os rk ve se oe ed li lj ol H
  have hT := H.1.2
  have hK := H.2.1.2
  have hc := hj_iv_c H
  have HR := hj_iv_r H
  have HO := H.2.2.2.2.2.2
  have fin : i_Rel (k + 5) (nI T, nI K, rc, ls, st, wr, rd, od, os, rk, ve, se, oe, ed, li) (nI T, nI K, st, wr, sw, od, os, lj) := hj_in H
  unfold wpX_serialAt
  dsimp only
  refine hj_xser HO hT hK hc HR fun r rc ls rk ve se oe ed li h1 => ?_
  have hn : hj_cn 4 (hj_cm st) ≤ 4 := hj_cn_N
  have ye : ∀ post : Int32 → SY → Prop, (∀ lj, (r = true → ∀ k, k < hj_cn 4 (hj_cm st) → li k = lj k) → (hj_b r = 0 → post (-1) (nI T, nI K, st, wr, sw, od, os, lj)) ∧ (¬ hj_b r = 0 → (v1 < 0 → post (-1) (nI T, nI K, st, wr, sw, od, os, lj)) ∧ (¬ v1 < 0 → (nI (hj_cn 4 (hj_cm st)) ≤ v1 → post (-1) (nI T, nI K, st, wr, sw, od, os, lj)) ∧ (¬ nI (hj_cn 4 (hj_cm st)) ≤ v1 → vp_in (v1 &&& 3) 4 ∧ post (lj (v1 &&& 3).toNatClampNeg) (nI T, nI K, st, wr, sw, od, os, lj))))) → wpY_serialAt post (nI T, nI K, st, wr, sw, od, os, lj) v1 := by
    intro post J
    unfold wpY_serialAt
    dsimp only
    refine hj_yser HO hT hK fun r' lj h2 => hj_ycn ?_
    obtain ⟨e, hl⟩ := hj_join H (by decide) h1 h2
    rw [e]
    exact J lj fun hr => (hl hr).2
  refine hj_bz (fun hr => ye _ fun lj _ => ?_) (fun hr => ?_)
  · rw [hr]
    exact br_t rfl ⟨rfl, hj_in H⟩
  · rw [hr] at h1 ye
    have hls := hj_xls H (by decide) h1
    rw [hls]
    by_cases h0 : v1 < 0
    · exact br_t h0 (ye _ fun lj _ => br_f (by decide) (br_t h0 ⟨rfl, hj_in H⟩))
    · refine br_f h0 ?_
      obtain ⟨q, hq, rfl⟩ := nI_of h0
      refine pk_lt q (hj_cn 4 (hj_cm st)) (fun h5 => ?_) (fun h5 => ?_)
      · rw [hj_c4 (k := q) (by omega)]
        refine ⟨hj_v4 (by omega), ye _ fun lj hl => br_f (by decide) (br_f h0 (br_f (nI_ge h5 (by omega)) ?_))⟩
        rw [hj_and3i (by omega), hj_c4 (k := q) (by omega)]
        exact ⟨hj_v4 (by omega), (hl rfl q h5).symm, hj_in H⟩
      · exact ye _ fun lj _ => br_f (by decide) (br_f h0 (br_t (nI_le h5 hq) ⟨rfl, hj_in H⟩))
end
