section
/-! rows of the kit's PURE-ROWS and BITS that this claim takes -/
theorem pk_us {f : Nat → Int32} {k : Nat} {x : Int32} : upd f k x k = x := if_pos rfl
theorem pk_un {f : Nat → Int32} {k j : Nat} {x : Int32} (h : j ≠ k) : upd f k x j = f j := if_neg h
theorem pk_sub {a b : Nat} (h : b ≤ a) : nI a - nI b = nI (a - b) := by
  obtain ⟨c, rfl⟩ : ∃ c, a = c + b := ⟨a - b, by omega⟩
  rw [← nI_add, Int32.add_sub_cancel, Nat.add_sub_cancel]
theorem pk_m1 (n : Nat) : nI (n + 1) + (-1) = nI n := by
  rw [← nI_1, Int32.add_assoc, show (1 : Int32) + (-1) = 0 from rfl, Int32.add_zero]
theorem pk_mul (a b : Nat) : nI a * nI b = nI (a * b) := (Int32.ofNat_mul a b).symm
theorem pk_div {a d : Nat} (ha : a < 2 ^ 31) (h0 : 0 < d) (hd : d < 2 ^ 31) : nI a / nI d = nI (a / d) := by
  apply Int32.toInt_inj.mp
  rw [lg_idiv_nonneg (by rw [nI_toInt ha]; omega) (by rw [nI_toInt hd]; omega), nI_toInt ha, nI_toInt hd, nI_toInt (Nat.lt_of_le_of_lt (Nat.div_le_self a d) ha)]
  first | rfl | exact (Int.natCast_ediv _ _).symm
theorem pk_rem {a d : Nat} (ha : a < 2 ^ 31) (h0 : 0 < d) (hd : d < 2 ^ 31) : nI a - nI a / nI d * nI d = nI (a % d) := by
  rw [pk_div ha h0 hd, pk_mul, pk_sub (Nat.div_mul_le_self a d)]
  exact congrArg nI (by have := Nat.div_add_mod' a d; omega)
theorem pk_sub_toInt {a b : Nat} (ha : a < 2 ^ 30) (hb : b < 2 ^ 30) : (nI a - nI b).toInt = (a : Int) - b := by
  rw [Int32.toInt_sub, nI_toInt (by omega), nI_toInt (by omega)]
  exact Int.bmod_eq_of_le (by omega) (by omega)
theorem pk_sneg {a b : Nat} (hb : b < 2 ^ 30) (h : a < b) : nI a - nI b < 0 := by
  rw [Int32.lt_iff_toInt_lt, pk_sub_toInt (by omega) hb, show (0 : Int32).toInt = 0 from by decide]
  omega
theorem pk_le {x y : Int32} {A B : Prop} (a b : Nat) (f : a ≤ b → A) (g : b < a → B) (hx : x = nI a := by rfl) (hy : y = nI b := by rfl) (ha : a < 2 ^ 31 := by omega) (hb : b < 2 ^ 31 := by omega) : (x ≤ y → A) ∧ (¬ x ≤ y → B) := by
  subst hx hy
  rw [nI_leI ha hb]
  exact ⟨f, fun z => g (by omega)⟩
theorem pk_lt {x y : Int32} {A B : Prop} (a b : Nat) (f : a < b → A) (g : b ≤ a → B) (hx : x = nI a := by rfl) (hy : y = nI b := by rfl) (ha : a < 2 ^ 31 := by omega) (hb : b < 2 ^ 31 := by omega) : (x < y → A) ∧ (¬ x < y → B) := by
  subst hx hy
  rw [nI_ltI ha hb]
  exact ⟨f, fun z => g (by omega)⟩
theorem pk_eq {x y : Int32} {A B : Prop} (a b : Nat) (f : a = b → A) (g : a ≠ b → B) (hx : x = nI a := by rfl) (hy : y = nI b := by rfl) (ha : a < 2 ^ 31 := by omega) (hb : b < 2 ^ 31 := by omega) : (x = y → A) ∧ (¬ x = y → B) := by
  subst hx hy
  rw [nI_eq ha hb]
  exact ⟨f, g⟩
theorem pk_in {x : Int32} (n N : Nat) (h : n < N) (hx : x = nI n := by rfl) (hN : N < 2 ^ 31 := by omega) : vp_in x N := by
  subst hx
  exact vp_in_nI h hN
theorem pk_cl {x : Int32} (n : Nat) (hx : x = nI n := by rfl) (h : n < 2 ^ 31 := by omega) : x.toNatClampNeg = n := by
  subst hx
  exact nI_clamp h
theorem pk_tn {n : Nat} (h : n < 2 ^ 32) : (nI n).toBitVec.toNat = n := Nat.mod_eq_of_lt h
theorem pk_shl (a s : Int32) (k : Nat) (hs : (s.toBitVec.smod 32).toNat = k) : (a <<< s).toBitVec.toNat = a.toBitVec.toNat * 2 ^ k % 2 ^ 32 := by
  show (a.toBitVec <<< (s.toBitVec.smod 32).toNat).toNat = _
  rw [hs, BitVec.toNat_shiftLeft, Nat.shiftLeft_eq]
theorem pk_shlN {n : Nat} (s : Int32) (k : Nat) (hs : (s.toBitVec.smod 32).toNat = k) (h : n * 2 ^ k < 2 ^ 32) : nI n <<< s = nI (n * 2 ^ k) := by
  apply Int32.toBitVec_inj.mp
  apply BitVec.eq_of_toNat_eq
  have hn : n < 2 ^ 32 := Nat.lt_of_le_of_lt (Nat.le_mul_of_pos_right n (Nat.two_pow_pos k)) h
  rw [pk_shl _ _ k hs, pk_tn hn, pk_tn h, Nat.mod_eq_of_lt h]
theorem pk_shr (a s : Int32) (k : Nat) (hs : (s.toBitVec.smod 32).toNat = k) : (a >>> s).toInt = a.toInt >>> k := by
  show (a.toBitVec.sshiftRight (s.toBitVec.smod 32).toNat).toInt = _
  rw [hs, BitVec.toInt_sshiftRight]
  rfl
theorem pk_shrN {n : Nat} (h : n < 2 ^ 31) (s : Int32) (k : Nat) (hs : (s.toBitVec.smod 32).toNat = k) : nI n >>> s = nI (n / 2 ^ k) := by
  apply Int32.toInt_inj.mp
  have h2 : n / 2 ^ k ≤ n := Nat.div_le_self _ _
  rw [pk_shr _ _ k hs, nI_toInt h, nI_toInt (by omega), Int.shiftRight_eq_div_pow]
  rfl
theorem s_l : ∀ n, n < 32 → ((nI n &&& 31).toBitVec.smod 32).toNat = n := by decide +kernel
theorem nx_and (a b : Nat) : nI a &&& nI b = nI (a &&& b) := by
  apply Int32.toBitVec_inj.1
  show BitVec.ofNat 32 a &&& BitVec.ofNat 32 b = BitVec.ofNat 32 (a &&& b)
  apply BitVec.eq_of_getLsbD_eq
  intro i hi
  simp [hi]
theorem nx_xor (a b : Nat) : nI a ^^^ nI b = nI (a ^^^ b) := by
  apply Int32.toBitVec_inj.1
  show BitVec.ofNat 32 a ^^^ BitVec.ofNat 32 b = BitVec.ofNat 32 (a ^^^ b)
  apply BitVec.eq_of_getLsbD_eq
  intro i hi
  simp [hi]
end
section
/-! sets of points as numbers below 64; sums and unions over counted points -/
def ly_df (a b : Nat) : Nat := a &&& (63 ^^^ b)
def ly_s (f : Nat → Nat) : Nat → Nat
  | 0 => 0
  | n + 1 => ly_s f n + f n
def ly_o (f : Nat → Nat) : Nat → Nat
  | 0 => 0
  | n + 1 => ly_o f n ||| f n
def ly_fb (a i : Nat) : Nat := (a.testBit i).toNat
def ly_pc (a : Nat) : Nat := ly_s (ly_fb a) 6
theorem ly_63 : ∀ i, i < 6 → Nat.testBit 63 i = true := by decide
theorem ly_dfL {a b : Nat} (ha : a < 64) : ly_df a b < 64 := Nat.lt_of_le_of_lt Nat.and_le_left ha
theorem ly_dfT (a b i : Nat) (hi : i < 6) : (ly_df a b).testBit i = (a.testBit i && !b.testBit i) := by
  unfold ly_df
  rw [Nat.testBit_and, Nat.testBit_xor, ly_63 i hi, Bool.true_xor]
theorem ly_orL {a b : Nat} (ha : a < 64) (hb : b < 64) : a ||| b < 64 := Nat.or_lt_two_pow (n := 6) ha hb
theorem ly_xorL {a b : Nat} (ha : a < 64) (hb : b < 64) : a ^^^ b < 64 := Nat.xor_lt_two_pow (n := 6) ha hb
theorem ly_pwL {p : Nat} (h : p < 6) : 2 ^ p < 64 := show 2 ^ p < 2 ^ 6 from Nat.pow_lt_pow_right (by decide) h
theorem ly_pwT (p i : Nat) : (2 ^ p).testBit i = decide (p = i) := Nat.testBit_two_pow
theorem ly_hi {a i : Nat} (ha : a < 64) (hi : 6 ≤ i) : a.testBit i = false :=
  Nat.testBit_lt_two_pow (Nat.lt_of_lt_of_le ha (show 2 ^ 6 ≤ 2 ^ i from Nat.pow_le_pow_right (by decide) hi))
theorem ly_ext {a b : Nat} (ha : a < 64) (hb : b < 64) (h : ∀ i, i < 6 → a.testBit i = b.testBit i) : a = b := by
  apply Nat.eq_of_testBit_eq
  intro i
  rcases Nat.lt_or_ge i 6 with hi | hi
  · exact h i hi
  · rw [ly_hi ha hi, ly_hi hb hi]
theorem ly_sL {f : Nat → Nat} {b : Nat} (h : ∀ i, f i ≤ b) : ∀ n, ly_s f n ≤ n * b := by
  intro n
  induction n with
  | zero => exact Nat.zero_le _
  | succ n ih => have := h n; show ly_s f n + f n ≤ _; rw [Nat.succ_mul]; omega
theorem ly_sC {f g : Nat → Nat} : ∀ n, (∀ i, i < n → f i = g i) → ly_s f n = ly_s g n := by
  intro n
  induction n with
  | zero => intro _; rfl
  | succ n ih =>
    intro h
    show ly_s f n + f n = ly_s g n + g n
    rw [ih (fun i hi => h i (by omega)), h n (by omega)]
theorem ly_oC {f g : Nat → Nat} : ∀ n, (∀ i, i < n → f i = g i) → ly_o f n = ly_o g n := by
  intro n
  induction n with
  | zero => intro _; rfl
  | succ n ih =>
    intro h
    show ly_o f n ||| f n = ly_o g n ||| g n
    rw [ih (fun i hi => h i (by omega)), h n (by omega)]
theorem ly_oL {f : Nat → Nat} : ∀ n, (∀ i, i < n → f i < 64) → ly_o f n < 64 := by
  intro n
  induction n with
  | zero => intro _; show 0 < 64; decide
  | succ n ih => intro h; exact ly_orL (ih (fun i hi => h i (by omega))) (h n (by omega))
theorem ly_oT {f : Nat → Nat} {q : Nat} : ∀ n, (ly_o f n).testBit q = true ↔ ∃ i, i < n ∧ (f i).testBit q = true := by
  intro n
  induction n with
  | zero => exact ⟨fun h => absurd h (by show ¬ (Nat.testBit 0 q = true); simp), fun ⟨i, hi, _⟩ => absurd hi (by omega)⟩
  | succ n ih =>
    show (ly_o f n ||| f n).testBit q = true ↔ _
    rw [Nat.testBit_or, Bool.or_eq_true, ih]
    constructor
    · rintro (⟨i, hi, h⟩ | h)
      · exact ⟨i, by omega, h⟩
      · exact ⟨n, by omega, h⟩
    · rintro ⟨i, hi, h⟩
      rcases Nat.lt_or_ge i n with z | z
      · exact Or.inl ⟨i, z, h⟩
      · have e : i = n := by omega
        rw [← e]; exact Or.inr h
theorem ly_pcL (a : Nat) : ly_pc a ≤ 6 := by
  have := ly_sL (f := ly_fb a) (b := 1) (fun i => Bool.toNat_le _) 6
  unfold ly_pc; omega
theorem ly_pcOr : ∀ a, a < 64 → ∀ p, p < 6 → a.testBit p = false → ly_pc (a ||| 2 ^ p) = ly_pc a + 1 := by decide +kernel
theorem ly_pcDf : ∀ a, a < 64 → ∀ p, p < 6 → a.testBit p = true → ly_pc (ly_df a (2 ^ p)) + 1 = ly_pc a := by decide +kernel
theorem ly_pc0 : ∀ a, a < 64 → (ly_pc a = 0 ↔ a = 0) := by decide +kernel
theorem ly_pc6 : ∀ a, a < 64 → (ly_pc a = 6 ↔ a = 63) := by decide +kernel
theorem ly_dfLt : ∀ a, a < 64 → ∀ p, p < 6 → a.testBit p = true → ly_df a (2 ^ p) < a := by decide +kernel
theorem ly_orGt : ∀ a, a < 64 → ∀ p, p < 6 → a.testBit p = false → a < a ||| 2 ^ p := by decide +kernel
theorem ly_dfEq : ∀ a, a < 64 → ∀ p, p < 6 → (ly_df a (2 ^ p) = a ↔ a.testBit p = false) := by decide +kernel
theorem ly_dfOr {a p : Nat} (ha : a < 64) (hp : p < 6) (h : a.testBit p = true) : ly_df a (2 ^ p) ||| 2 ^ p = a := by
  apply ly_ext (ly_orL (ly_dfL ha) (ly_pwL hp)) ha
  intro i hi
  rw [Nat.testBit_or, ly_dfT _ _ _ hi, ly_pwT]
  by_cases e : p = i
  · subst e; simp [h]
  · simp [e]
theorem ly_orDf {a p : Nat} (ha : a < 64) (hp : p < 6) (h : a.testBit p = false) : ly_df (a ||| 2 ^ p) (2 ^ p) = a := by
  apply ly_ext (ly_dfL (ly_orL ha (ly_pwL hp))) ha
  intro i hi
  rw [ly_dfT _ _ _ hi, Nat.testBit_or, ly_pwT]
  by_cases e : p = i
  · subst e; simp [h]
  · simp [e]
theorem ly_dfS {a p : Nat} (hp : p < 6) : (ly_df a (2 ^ p)).testBit p = false := by
  rw [ly_dfT _ _ _ hp, ly_pwT]; simp
theorem ly_orS {a p : Nat} : (a ||| 2 ^ p).testBit p = true := by
  rw [Nat.testBit_or, ly_pwT]; simp
/-! the same in Int32 -/
theorem ly_bit : ∀ a, a < 64 → ∀ p, p < 6 → ((nI a >>> (nI p &&& 31)) &&& 1) = nI (a.testBit p).toNat := by decide +kernel
theorem ly_ndf : ∀ a, a < 64 → ∀ b, b < 64 → nI a &&& (nI b ^^^ (-1)) = nI (ly_df a b) := by decide +kernel
theorem ly_shl : ∀ p, p < 6 → ((1 : Int32) <<< (nI p &&& 31)) = nI (2 ^ p) := by decide +kernel
theorem ly_or (a b : Nat) : nI a ||| nI b = nI (a ||| b) := by
  apply Int32.toBitVec_inj.1
  show BitVec.ofNat 32 a ||| BitVec.ofNat 32 b = BitVec.ofNat 32 (a ||| b)
  apply BitVec.eq_of_getLsbD_eq
  intro i hi
  simp [hi]
theorem ly_b1 {b : Bool} : nI b.toNat = 1 ↔ b = true := by revert b; decide
theorem ly_b0 {b : Bool} : nI b.toNat = 0 ↔ b = false := by revert b; decide
theorem ly_br1 {a p : Nat} {A B : Prop} (ha : a < 64) (hp : p < 6) (f : a.testBit p = true → A) (g : a.testBit p = false → B) : ((((nI a >>> (nI p &&& 31)) &&& 1) = 1) → A) ∧ (¬ (((nI a >>> (nI p &&& 31)) &&& 1) = 1) → B) := by
  rw [ly_bit a ha p hp, ly_b1]
  exact ⟨f, fun z => g (by cases h : a.testBit p; rfl; exact absurd h z)⟩
theorem ly_br0 {a p : Nat} {A B : Prop} (ha : a < 64) (hp : p < 6) (f : a.testBit p = false → A) (g : a.testBit p = true → B) : ((((nI a >>> (nI p &&& 31)) &&& 1) = 0) → A) ∧ (¬ (((nI a >>> (nI p &&& 31)) &&& 1) = 0) → B) := by
  rw [ly_bit a ha p hp, ly_b0]
  exact ⟨f, fun z => g (by cases h : a.testBit p; exact absurd h z; rfl)⟩
/-! loops that count up to e -/
theorem ly_lp {W : Nat → Nat → Prop} (e i0 : Nat) (h0 : i0 ≤ e) (hx : ∀ n, W (n + 1) e) (hs : ∀ n i, i0 ≤ i → i < e → W n (i + 1) → W (n + 1) i) : ∃ n, W n i0 := by
  have k : ∀ d i, i0 ≤ i → i + d = e → W (d + 1) i := by
    intro d
    induction d with
    | zero => intro i h1 h2; have : i = e := by omega
              rw [this]; exact hx 0
    | succ d ih => intro i h1 h2; exact hs (d + 1) i h1 (by omega) (ih (i + 1) (by omega) (by omega))
  exact ⟨e - i0 + 1, k (e - i0) i0 (Nat.le_refl _) (by omega)⟩
theorem ly_ge {e i : Nat} (h : i < e) (he : e < 2 ^ 31) : ¬ nI e ≤ nI i := nI_ge h he
theorem ly_6 {i : Nat} (h : i < 6) : ¬ (6 : Int32) ≤ nI i := nI_ge (b := 6) h (by decide)
theorem ly_66 : (6 : Int32) ≤ nI 6 := nI_le (a := 6) (b := 6) (by decide) (by decide)
theorem ly_in6 {i : Nat} (h : i < 6) : vp_in (nI i) 6 := vp_in_nI h (by decide)
theorem ly_in64 {i : Nat} (h : i < 64) : vp_in (nI i) 64 := vp_in_nI h (by decide)
theorem ly_cl {i : Nat} (h : i < 64) : (nI i).toNatClampNeg = i := nI_clamp (by omega)
end
section
/-! the component's helpers over masks -/
def ly_N (a : Nat → Int32) (m : Nat → Nat) : Prop := ∀ p, p < 6 → a p = nI (m p) ∧ m p < 64
def ly_fc (m : Nat → Nat) (S p : Nat) : Nat := if S.testBit p = true then ly_pc (ly_df (m p) S) else 0
def ly_cut (m : Nat → Nat) (S : Nat) : Nat := ly_s (ly_fc m S) 6
def ly_fs (m : Nat → Nat) (S p : Nat) : Nat := if S.testBit p = true then (if ly_df (m p) S = 0 then 0 else 1) else 0
def ly_sep (m : Nat → Nat) (S : Nat) : Nat := ly_s (ly_fs m S) 6
def ly_g (m : Nat → Nat) (S p s q : Nat) : Nat := if s.testBit q = true ∧ (q = p ∨ S.testBit q = true) then m q else 0
def ly_sn (m : Nat → Nat) (S p : Nat) : Nat → Nat
  | 0 => 2 ^ p
  | r + 1 => ly_sn m S p r ||| ly_o (ly_g m S p (ly_sn m S p r)) 6
def ly_nb (m : Nat → Nat) (S p : Nat) : Nat := ly_df (ly_df (ly_sn m S p 6) S) (2 ^ p)
def ly_fm (m : Nat → Nat) (S p q : Nat) : Nat := if (ly_nb m S p).testBit q = true then ly_pc (ly_df (ly_df (ly_nb m S p) (ly_nb m S q)) (2 ^ q)) else 0
def ly_mis (m : Nat → Nat) (S p : Nat) : Nat := ly_s (ly_fm m S p) 6 / 2
def ly_pr (k : Nat) (m : Nat → Nat) (S p : Nat) : Nat := if k = 0 then ly_cut m (S ||| 2 ^ p) else if k = 3 then ly_cut m (S ||| 2 ^ p) else if k = 1 then ly_sep m (S ||| 2 ^ p) else if k = 2 then ly_pc (ly_nb m S p) else ly_mis m S p
def ly_J (k a b : Nat) : Nat := if k < 3 then (if a ≤ b then b else a) else a + b
theorem ly_cutB (m : Nat → Nat) (S : Nat) : ly_cut m S ≤ 36 := by
  have h := ly_sL (f := ly_fc m S) (b := 6) (fun i => by unfold ly_fc; split; exact ly_pcL _; omega) 6
  exact h
theorem ly_sepB (m : Nat → Nat) (S : Nat) : ly_sep m S ≤ 36 := by
  have h := ly_sL (f := ly_fs m S) (b := 6) (fun i => by unfold ly_fs; split; split; omega; omega; omega) 6
  exact h
theorem ly_fmB (m : Nat → Nat) (S p i : Nat) : ly_s (ly_fm m S p) i ≤ i * 6 :=
  ly_sL (f := ly_fm m S p) (b := 6) (fun i => by unfold ly_fm; split; exact ly_pcL _; omega) i
theorem ly_misB (m : Nat → Nat) (S p : Nat) : ly_mis m S p ≤ 36 := by
  have h := ly_fmB m S p 6
  unfold ly_mis; omega
theorem ly_prB (k : Nat) (m : Nat → Nat) (S p : Nat) : ly_pr k m S p ≤ 36 := by
  unfold ly_pr
  split; exact ly_cutB _ _
  split; exact ly_cutB _ _
  split; exact ly_sepB _ _
  split
  · have := ly_pcL (ly_nb m S p); omega
  · exact ly_misB _ _ _
theorem ly_snL {m : Nat → Nat} {S p : Nat} (hm : ∀ q, q < 6 → m q < 64) (hp : p < 6) : ∀ r, ly_sn m S p r < 64 := by
  intro r
  induction r with
  | zero => exact ly_pwL hp
  | succ r ih => exact ly_orL ih (ly_oL 6 (fun q hq => by unfold ly_g; split; exact hm q hq; decide))
theorem ly_nbL {m : Nat → Nat} {S p : Nat} (hm : ∀ q, q < 6 → m q < 64) (hp : p < 6) : ly_nb m S p < 64 := ly_dfL (ly_dfL (ly_snL hm hp 6))
theorem lx_size {post : Int32 → Prop} {u : SX} {x : Nat} (hx : x < 64) (hp : post (nI (ly_pc x))) : wpX_sizeOf post u (nI x) := by
  obtain ⟨na, nc, nw, nh, np, nt⟩ := u
  exact ly_lp (W := fun n i => wX_sizeOf_4 post (nI x) na nc nw nh np nt n (nI (ly_s (ly_fb x) i)) (nI i)) 6 0 (by decide)
    (fun n => br_t ly_66 hp)
    (fun n i _ hi ih => br_f (ly_6 hi) (nm_r (e' := nI (ly_s (ly_fb x) (i + 1))) (by rw [ly_bit x hx i hi, nI_add]; rfl) (nm_r (nI_1 i) ih)))
theorem lx_cut {post : Int32 → Prop} {na nc nw nh np nt : Nat → Int32} {m : Nat → Nat} {S : Nat} (N : ly_N na m) (hS : S < 64) (hp : post (nI (ly_cut m S))) : wpX_cutOf post (na, nc, nw, nh, np, nt) (nI S) := by
  refine ly_lp (W := fun n i => wX_cutOf_4 post (nI S) na nc nw nh np nt n (nI (ly_s (ly_fc m S) i)) (nI i)) 6 0 (by decide)
    (fun n => br_t ly_66 hp) ?_
  intro n i _ hi ih
  refine br_f (ly_6 hi) (ly_br1 hS hi (fun hb => ⟨ly_in6 hi, ?_⟩) (fun hb => ?_))
  · rw [ly_cl (i := i) (by omega), (N i hi).1, ly_ndf _ (N i hi).2 _ hS]
    refine lx_size (ly_dfL (N i hi).2) (nm_r (e' := nI (ly_s (ly_fc m S) (i + 1))) ?_ (nm_r (nI_1 i) ih))
    rw [nI_add]
    refine congrArg nI ?_
    show _ = ly_s (ly_fc m S) i + ly_fc m S i
    rw [show ly_fc m S i = ly_pc (ly_df (m i) S) from if_pos hb]
  · have e : ly_s (ly_fc m S) (i + 1) = ly_s (ly_fc m S) i := by
      show ly_s (ly_fc m S) i + ly_fc m S i = _
      rw [show ly_fc m S i = 0 from if_neg (by rw [hb]; decide), Nat.add_zero]
    rw [e] at ih
    exact nm_r (nI_1 i) ih
theorem lx_sep {post : Int32 → Prop} {na nc nw nh np nt : Nat → Int32} {m : Nat → Nat} {S : Nat} (N : ly_N na m) (hS : S < 64) (hp : post (nI (ly_sep m S))) : wpX_separationOf post (na, nc, nw, nh, np, nt) (nI S) := by
  refine ly_lp (W := fun n i => wX_separationOf_4 post (nI S) na nc nw nh np nt n (nI (ly_s (ly_fs m S) i)) (nI i)) 6 0 (by decide)
    (fun n => br_t ly_66 hp) ?_
  intro n i _ hi ih
  have es : ly_s (ly_fs m S) (i + 1) = ly_s (ly_fs m S) i + ly_fs m S i := rfl
  refine br_f (ly_6 hi) (ly_br1 hS hi (fun hb => ⟨ly_in6 hi, ?_⟩) (fun hb => ?_))
  · rw [ly_cl (i := i) (by omega), (N i hi).1, ly_ndf _ (N i hi).2 _ hS]
    have hd : ly_df (m i) S < 64 := ly_dfL (N i hi).2
    refine pk_eq (ly_df (m i) S) 0 (fun z => ?_) (fun z => ?_) rfl rfl (by omega) (by omega)
    · rw [es, show ly_fs m S i = 0 from by unfold ly_fs; rw [if_pos hb, if_pos z], Nat.add_zero] at ih
      exact nm_r (nI_1 i) ih
    · rw [es, show ly_fs m S i = 1 from by unfold ly_fs; rw [if_pos hb, if_neg z]] at ih
      exact nm_r (nI_1 _) (nm_r (nI_1 i) ih)
  · rw [es, show ly_fs m S i = 0 from if_neg (by rw [hb]; decide), Nat.add_zero] at ih
    exact nm_r (nI_1 i) ih
theorem lx_nb20 {post : Int32 → Prop} {J : Int32 → Int32 → Prop} {na nc nw nh np nt : Nat → Int32} {m : Nat → Nat} {S p s r : Nat} (N : ly_N na m) (hS : S < 64) (hp : p < 6) (hs : s < 64) (hJ : J (nI (s ||| ly_o (ly_g m S p s) 6)) (nI (r + 1))) :
    ∃ n, wX_neighbours_20 post J (nI S) (nI p) (nI s) (nI r) na nc nw nh np nt n 0 0 := by
  refine ly_lp (W := fun n i => wX_neighbours_20 post J (nI S) (nI p) (nI s) (nI r) na nc nw nh np nt n (nI (ly_o (ly_g m S p s) i)) (nI i)) 6 0 (by decide)
    (fun n => br_t ly_66 (nm_r (ly_or _ _) (nm_r (nI_1 r) hJ))) ?_
  intro n i _ hi ih
  have eo : ly_o (ly_g m S p s) (i + 1) = ly_o (ly_g m S p s) i ||| ly_g m S p s i := rfl
  have skip : ly_g m S p s i = 0 → ∀ x, x = nI i + 1 → wX_neighbours_20 post J (nI S) (nI p) (nI s) (nI r) na nc nw nh np nt n (nI (ly_o (ly_g m S p s) i)) x := by
    intro z
    rw [eo, z, Nat.or_zero] at ih
    exact nm_r (nI_1 i) ih
  have join : ly_g m S p s i = m i → wX_neighbours_53 post J (wX_neighbours_20 post J (nI S) (nI p) (nI s) (nI r) na nc nw nh np nt n) (nI S) (nI p) (nI s) (nI r) (nI (ly_o (ly_g m S p s) i)) (nI i) na nc nw nh np nt := by
    intro z
    unfold wX_neighbours_53
    refine ⟨ly_in6 hi, nm_r (e' := nI (ly_o (ly_g m S p s) (i + 1))) ?_ (nm_r (nI_1 i) ih)⟩
    rw [ly_cl (i := i) (by omega), (N i hi).1, ly_or, eo, z]
  refine br_f (ly_6 hi) (ly_br1 hs hi (fun hb => pk_eq i p (fun e => join ?_) (fun ne => ly_br1 hS hi (fun hb2 => join ?_) (fun hb2 => skip ?_)) rfl rfl (by omega) (by omega)) (fun hb => skip ?_))
  · exact if_pos ⟨hb, Or.inl e⟩
  · exact if_pos ⟨hb, Or.inr hb2⟩
  · exact if_neg (fun z => z.2.elim ne (fun y => by rw [hb2] at y; cases y))
  · exact if_neg (fun z => by rw [hb] at z; cases z.1)
theorem lx_nb {post : Int32 → Prop} {na nc nw nh np nt : Nat → Int32} {m : Nat → Nat} {S p : Nat} (N : ly_N na m) (hS : S < 64) (hp : p < 6) (h : post (nI (ly_nb m S p))) : wpX_neighbours post (na, nc, nw, nh, np, nt) (nI S) (nI p) := by
  have hm : ∀ q, q < 6 → m q < 64 := fun q hq => (N q hq).2
  refine nm_r (e' := nI (2 ^ p)) (ly_shl p hp) ?_
  refine ly_lp (W := fun n r => wX_neighbours_7 post (nI S) (nI p) na nc nw nh np nt n (nI (ly_sn m S p r)) (nI r)) 6 0 (by decide)
    (fun n => br_t ly_66 ?_) (fun n r _ hr ih => br_f (ly_6 hr) (lx_nb20 N hS hp (ly_snL hm hp r) ih))
  rw [ly_ndf _ (ly_snL hm hp 6) _ hS, ly_shl p hp, ly_ndf _ (ly_dfL (ly_snL hm hp 6)) _ (ly_pwL hp)]
  exact h
theorem lx_mis {post : Int32 → Prop} {na nc nw nh np nt : Nat → Int32} {m : Nat → Nat} {S p : Nat} (N : ly_N na m) (hS : S < 64) (hp : p < 6) (h : post (nI (ly_mis m S p))) : wpX_missing post (na, nc, nw, nh, np, nt) (nI S) (nI p) := by
  have hm : ∀ q, q < 6 → m q < 64 := fun q hq => (N q hq).2
  have hn : ∀ q, q < 6 → ly_nb m S q < 64 := fun q hq => ly_nbL hm hq
  unfold wpX_missing
  refine lx_nb N hS hp ?_
  refine ly_lp (W := fun n i => wX_missing_13 post (nI S) (nI (ly_nb m S p)) na nc nw nh np nt n (nI (ly_s (ly_fm m S p) i)) (nI i)) 6 0 (by decide)
    (fun n => br_t ly_66 ⟨by decide, ?_⟩) ?_
  · have hb := ly_fmB m S p 6
    have e : nI (ly_s (ly_fm m S p) 6) / 2 = nI (ly_mis m S p) := pk_div (d := 2) (by omega) (by decide) (by decide)
    rw [e]
    exact h
  intro n i _ hi ih
  have es : ly_s (ly_fm m S p) (i + 1) = ly_s (ly_fm m S p) i + ly_fm m S p i := rfl
  refine br_f (ly_6 hi) (ly_br1 (hn p hp) hi (fun hb => lx_nb N hS hi ?_) (fun hb => ?_))
  · rw [ly_ndf _ (hn p hp) _ (hn i hi), ly_shl i hi, ly_ndf _ (ly_dfL (hn p hp)) _ (ly_pwL hi)]
    refine lx_size (ly_dfL (ly_dfL (hn p hp))) (nm_r (e' := nI (ly_s (ly_fm m S p) (i + 1))) ?_ (nm_r (nI_1 i) ih))
    rw [nI_add, es, show ly_fm m S p i = ly_pc (ly_df (ly_df (ly_nb m S p) (ly_nb m S i)) (2 ^ i)) from if_pos hb]
  · rw [es, show ly_fm m S p i = 0 from if_neg (by rw [hb]; decide), Nat.add_zero] at ih
    exact nm_r (nI_1 i) ih
theorem lx_price {post : Int32 → Prop} {na nc nw nh np nt : Nat → Int32} {m : Nat → Nat} {k S p : Nat} (N : ly_N na m) (hk : k < 5) (hS : S < 64) (hp : p < 6) (h : post (nI (ly_pr k m S p))) : wpX_price post (na, nc, nw, nh, np, nt) (nI k) (nI S) (nI p) := by
  have hS2 : S ||| 2 ^ p < 64 := ly_orL hS (ly_pwL hp)
  refine nm_r (e' := nI (S ||| 2 ^ p)) (by rw [ly_shl p hp, ly_or]) ?_
  refine pk_eq k 0 (fun e => ?_) (fun n0 => ?_) rfl rfl (by omega) (by omega)
  · unfold wX_price_16
    refine lx_cut N hS2 ?_
    subst e; exact h
  refine pk_eq k 3 (fun e => ?_) (fun n3 => ?_) rfl rfl (by omega) (by omega)
  · unfold wX_price_16
    refine lx_cut N hS2 ?_
    subst e; exact h
  refine pk_eq k 1 (fun e => ?_) (fun n1 => ?_) rfl rfl (by omega) (by omega)
  · refine lx_sep N hS2 ?_
    subst e; exact h
  refine pk_eq k 2 (fun e => ?_) (fun n2 => ?_) rfl rfl (by omega) (by omega)
  · refine lx_nb N hS hp ?_
    refine lx_size (ly_nbL (fun q hq => (N q hq).2) hp) ?_
    subst e; exact h
  · refine lx_mis N hS hp ?_
    have e : k = 4 := by omega
    subst e; exact h
theorem lx_join {post : Int32 → Prop} {u : SX} {k x y : Nat} (hk : k < 5) (hx : x < 2 ^ 30) (hy : y < 2 ^ 30) (h : post (nI (ly_J k x y))) : wpX_joined post u (nI k) (nI x) (nI y) := by
  obtain ⟨na, nc, nw, nh, np, nt⟩ := u
  refine pk_lt k 3 (fun z => ?_) (fun z => ?_) rfl rfl (by omega) (by omega)
  · refine pk_le x y (fun z2 => ?_) (fun z2 => ?_) rfl rfl (by omega) (by omega)
    · rw [show ly_J k x y = y from by unfold ly_J; rw [if_pos z, if_pos z2]] at h; exact h
    · rw [show ly_J k x y = x from by unfold ly_J; rw [if_pos z, if_neg (by omega)]] at h; exact h
  · rw [show ly_J k x y = x + y from by unfold ly_J; rw [if_neg (by omega)], ← nI_add] at h; exact h
end
section
/-! the component's tables over all sets -/
def ly_mn (g : Nat → Bool) (v : Nat → Nat) : Nat → Nat
  | 0 => 1000
  | i + 1 => if g i = true then (if ly_mn g v i ≤ v i then ly_mn g v i else v i) else ly_mn g v i
def ly_co (k : Nat) (m : Nat → Nat) : Nat → Nat → Nat
  | 0, _ => 0
  | d + 1, S => ly_mn (fun p => S.testBit p) (fun p => ly_J k (ly_co k m d (ly_df S (2 ^ p))) (ly_pr k m (ly_df S (2 ^ p)) p)) 6
def ly_CO (k : Nat) (m : Nat → Nat) (S : Nat) : Nat := ly_co k m (ly_pc S) S
def ly_vC (k : Nat) (m : Nat → Nat) (S p : Nat) : Nat := ly_J k (ly_CO k m (ly_df S (2 ^ p))) (ly_pr k m (ly_df S (2 ^ p)) p)
def ly_ah (k : Nat) (m : Nat → Nat) : Nat → Nat → Nat
  | 0, _ => 0
  | d + 1, S => ly_mn (fun p => !S.testBit p) (fun p => ly_J k (ly_pr k m S p) (ly_ah k m d (S ||| 2 ^ p))) 6
def ly_AH (k : Nat) (m : Nat → Nat) (S : Nat) : Nat := ly_ah k m (6 - ly_pc S) S
def ly_vA (k : Nat) (m : Nat → Nat) (S p : Nat) : Nat := ly_J k (ly_pr k m S p) (ly_AH k m (S ||| 2 ^ p))
theorem ly_mnS (g : Nat → Bool) (v : Nat → Nat) (i : Nat) : ly_mn g v (i + 1) = if g i = true then (if ly_mn g v i ≤ v i then ly_mn g v i else v i) else ly_mn g v i := rfl
theorem ly_mnC {g : Nat → Bool} {v v' : Nat → Nat} : ∀ n, (∀ i, i < n → g i = true → v i = v' i) → ly_mn g v n = ly_mn g v' n := by
  intro n
  induction n with
  | zero => intro _; rfl
  | succ n ih =>
    intro h
    rw [ly_mnS, ly_mnS, ih (fun i hi => h i (by omega))]
    by_cases z : g n = true
    · rw [if_pos z, if_pos z, h n (by omega) z]
    · rw [if_neg z, if_neg z]
theorem ly_mnB (g : Nat → Bool) (v : Nat → Nat) : ∀ n, ly_mn g v n ≤ 1000 := by
  intro n
  induction n with
  | zero => exact Nat.le_refl _
  | succ n ih =>
    rw [ly_mnS]
    split
    · split
      · exact ih
      · omega
    · exact ih
theorem ly_coB (k : Nat) (m : Nat → Nat) : ∀ d S, ly_co k m d S ≤ 1000
  | 0, _ => Nat.zero_le _
  | _ + 1, _ => ly_mnB _ _ 6
theorem ly_ahB (k : Nat) (m : Nat → Nat) : ∀ d S, ly_ah k m d S ≤ 1000
  | 0, _ => Nat.zero_le _
  | _ + 1, _ => ly_mnB _ _ 6
theorem ly_COB (k : Nat) (m : Nat → Nat) (S : Nat) : ly_CO k m S ≤ 1000 := ly_coB _ _ _ _
theorem ly_AHB (k : Nat) (m : Nat → Nat) (S : Nat) : ly_AH k m S ≤ 1000 := ly_ahB _ _ _ _
theorem ly_JB {k a b A B : Nat} (ha : a ≤ A) (hb : b ≤ B) : ly_J k a b ≤ A + B := by
  unfold ly_J; split
  · split <;> omega
  · omega
theorem ly_vCB (k : Nat) (m : Nat → Nat) (S p : Nat) : ly_vC k m S p ≤ 1036 := ly_JB (ly_COB _ _ _) (ly_prB _ _ _ _)
theorem ly_vAB (k : Nat) (m : Nat → Nat) (S p : Nat) : ly_vA k m S p ≤ 1036 := by
  have := ly_JB (k := k) (ly_prB k m S p) (ly_AHB k m (S ||| 2 ^ p))
  unfold ly_vA; omega
theorem ly_CO0 (k : Nat) (m : Nat → Nat) : ly_CO k m 0 = 0 := by
  unfold ly_CO
  rw [(ly_pc0 0 (by decide)).mpr rfl]; rfl
theorem ly_AH63 (k : Nat) (m : Nat → Nat) : ly_AH k m 63 = 0 := by
  unfold ly_AH
  rw [(ly_pc6 63 (by decide)).mpr rfl]; rfl
theorem ly_COe (k : Nat) (m : Nat → Nat) {S : Nat} (hS : S < 64) (h0 : S ≠ 0) : ly_CO k m S = ly_mn (fun p => S.testBit p) (ly_vC k m S) 6 := by
  have h1 : ly_pc S ≠ 0 := fun z => h0 ((ly_pc0 S hS).mp z)
  obtain ⟨d, hd⟩ : ∃ d, ly_pc S = d + 1 := ⟨ly_pc S - 1, by omega⟩
  unfold ly_CO
  rw [hd]
  show ly_mn (fun p => S.testBit p) (fun p => ly_J k (ly_co k m d (ly_df S (2 ^ p))) (ly_pr k m (ly_df S (2 ^ p)) p)) 6 = _
  apply ly_mnC
  intro p hp hb
  have e : ly_pc (ly_df S (2 ^ p)) = d := by have := ly_pcDf S hS p hp hb; omega
  unfold ly_vC ly_CO
  rw [e]
theorem ly_AHe (k : Nat) (m : Nat → Nat) {S : Nat} (hS : S < 64) (h0 : S ≠ 63) : ly_AH k m S = ly_mn (fun p => !S.testBit p) (ly_vA k m S) 6 := by
  have h1 : ly_pc S ≠ 6 := fun z => h0 ((ly_pc6 S hS).mp z)
  have h2 := ly_pcL S
  obtain ⟨d, hd⟩ : ∃ d, 6 - ly_pc S = d + 1 := ⟨6 - ly_pc S - 1, by omega⟩
  unfold ly_AH
  rw [hd]
  show ly_mn (fun p => !S.testBit p) (fun p => ly_J k (ly_pr k m S p) (ly_ah k m d (S ||| 2 ^ p))) 6 = _
  apply ly_mnC
  intro p hp hb
  have hb' : S.testBit p = false := by cases h : S.testBit p; rfl; rw [h] at hb; cases hb
  have e : 6 - ly_pc (S ||| 2 ^ p) = d := by have := ly_pcOr S hS p hp hb'; omega
  unfold ly_vA ly_AH
  rw [e]
theorem ly_uu (f : Nat → Int32) (k : Nat) (x y : Int32) : upd (upd f k x) k y = upd f k y := by
  funext j
  unfold upd
  split <;> rfl
theorem lx_fc26 {post : SX → Prop} {J : Int32 → (Nat → Int32) → (Nat → Int32) → (Nat → Int32) → (Nat → Int32) → (Nat → Int32) → (Nat → Int32) → Prop} {na nc nw nh np nt : Nat → Int32} {m : Nat → Nat} {k S : Nat} (N : ly_N na m) (hk : k < 5) (hS : S < 64) (h0 : S ≠ 0)
    (hC : ∀ T, T < S → nc T = nI (ly_CO k m T)) (hJ : J (nI (S + 1)) na (upd nc S (nI (ly_CO k m S))) nw nh np nt) :
    ∃ n, wX_fillCost_26 post J (nI k) (nI S) n 0 na (upd nc S 1000) nw nh np nt := by
  rw [ly_COe k m hS h0] at hJ
  refine ly_lp (W := fun n i => wX_fillCost_26 post J (nI k) (nI S) n (nI i) na (upd nc S (nI (ly_mn (fun p => S.testBit p) (ly_vC k m S) i))) nw nh np nt) 6 0 (by decide)
    (fun n => br_t ly_66 (nm_r (nI_1 S) hJ)) ?_
  intro n i _ hi ih
  rw [ly_mnS] at ih
  have hd : ly_df S (2 ^ i) < 64 := ly_dfL hS
  have hB := ly_mnB (fun p => S.testBit p) (ly_vC k m S) i
  have hV := ly_vCB k m S i
  refine br_f (ly_6 hi) (nm_r (e' := nI (ly_df S (2 ^ i))) (by rw [ly_shl i hi, ly_ndf S hS _ (ly_pwL hi)]) (pk_eq (ly_df S (2 ^ i)) S (fun e => ?_) (fun ne => ?_) rfl rfl (by omega) (by omega)))
  · have hb := (ly_dfEq S hS i hi).mp e
    rw [if_neg (by rw [hb]; decide)] at ih
    exact nm_r (nI_1 i) ih
  · have hb : S.testBit i = true := by
      cases h : S.testBit i
      · exact absurd ((ly_dfEq S hS i hi).mpr h) ne
      · rfl
    have hl := ly_dfLt S hS i hi hb
    rw [if_pos hb] at ih
    refine lx_price N hk hd hi ⟨ly_in64 hd, ?_⟩
    rw [ly_cl hd, pk_un (j := ly_df S (2 ^ i)) (by omega), hC _ hl]
    have hcb := ly_COB k m (ly_df S (2 ^ i))
    have hpb := ly_prB k m (ly_df S (2 ^ i)) i
    refine lx_join hk (by omega) (by omega) ⟨ly_in64 hS, ?_⟩
    rw [ly_cl hS, pk_us]
    refine pk_le (ly_mn (fun p => S.testBit p) (ly_vC k m S) i) (ly_vC k m S i) (fun z => ?_) (fun z => ?_) rfl rfl (by omega) (by omega)
    · rw [if_pos z] at ih
      exact ⟨ly_in64 hS, ly_in64 hS, nm_r (ly_uu _ _ _ _) (nm_r (nI_1 i) ih)⟩
    · rw [if_neg (by omega)] at ih
      exact ⟨ly_in64 hS, nm_r (ly_uu _ _ _ _) (nm_r (nI_1 i) ih)⟩
theorem lx_fillCost {post : SX → Prop} {na nc nw nh np nt : Nat → Int32} {m : Nat → Nat} {k : Nat} (N : ly_N na m) (hk : k < 5)
    (hp : ∀ C : Nat → Int32, (∀ T, T < 64 → C T = nI (ly_CO k m T)) → post (na, C, nw, nh, np, nt)) : wpX_fillCost post (na, nc, nw, nh, np, nt) (nI k) := by
  have L : ∃ n, ∀ C : Nat → Int32, (∀ T, T < 1 → C T = nI (ly_CO k m T)) → wX_fillCost_9 post (nI k) n (nI 1) na C nw nh np nt := by
    refine ly_lp (W := fun n S => ∀ C : Nat → Int32, (∀ T, T < S → C T = nI (ly_CO k m T)) → wX_fillCost_9 post (nI k) n (nI S) na C nw nh np nt) 64 1 (by decide)
      (fun n C hC => br_t (nI_le (a := 64) (b := 64) (by decide) (by decide)) (hp C hC)) ?_
    intro n S h1 hS ih C hC
    refine br_f (nI_ge (b := 64) hS (by decide)) ⟨ly_in64 hS, nm_r (e' := upd C S 1000) (by rw [ly_cl hS]) ?_⟩
    refine lx_fc26 N hk hS (by omega) hC (ih _ ?_)
    intro T hT
    by_cases e : T = S
    · subst e; rw [pk_us]
    · rw [pk_un e]; exact hC T (by omega)
  obtain ⟨n, h⟩ := L
  refine nm_e ⟨n, h _ ?_⟩
  intro T hT
  have e : T = 0 := by omega
  subst e
  rw [pk_us, ly_CO0]; rfl
theorem ly_lpD {W : Nat → Nat → Prop} (E : Nat) (hx : ∀ n, W (n + 1) 0) (hs : ∀ n e, e < E → W n e → W (n + 1) (e + 1)) : ∃ n, W n E := by
  have k : ∀ e, e ≤ E → W (e + 1) e := by
    intro e
    induction e with
    | zero => intro _; exact hx 0
    | succ e ih => intro h; exact hs (e + 1) e (by omega) (ih (by omega))
  exact ⟨E + 1, k E (Nat.le_refl _)⟩
theorem lx_fa26 {post : SX → Prop} {J : Int32 → (Nat → Int32) → (Nat → Int32) → (Nat → Int32) → (Nat → Int32) → (Nat → Int32) → (Nat → Int32) → Prop} {na nc nw nh np nt : Nat → Int32} {m : Nat → Nat} {k S : Nat} (N : ly_N na m) (hk : k < 5) (hS : S < 63)
    (hC : ∀ T, S < T → T < 64 → nh T = nI (ly_AH k m T)) (hJ : J (nI S + (-1)) na nc nw (upd nh S (nI (ly_AH k m S))) np nt) :
    ∃ n, wX_fillAhead_26 post J (nI k) (nI S) n 0 na nc nw (upd nh S 1000) np nt := by
  have hS' : S < 64 := by omega
  rw [ly_AHe k m hS' (by omega)] at hJ
  refine ly_lp (W := fun n i => wX_fillAhead_26 post J (nI k) (nI S) n (nI i) na nc nw (upd nh S (nI (ly_mn (fun p => !S.testBit p) (ly_vA k m S) i))) np nt) 6 0 (by decide)
    (fun n => br_t ly_66 (nm_e hJ)) ?_
  intro n i _ hi ih
  rw [ly_mnS] at ih
  have hd : S ||| 2 ^ i < 64 := ly_orL hS' (ly_pwL hi)
  have hB := ly_mnB (fun p => !S.testBit p) (ly_vA k m S) i
  have hV := ly_vAB k m S i
  refine br_f (ly_6 hi) (ly_br0 hS' hi (fun hb => ?_) (fun hb => ?_))
  · have hl := ly_orGt S hS' i hi hb
    rw [if_pos (by rw [hb]; rfl)] at ih
    refine lx_price N hk hS' hi ?_
    rw [ly_shl i hi, ly_or]
    refine ⟨ly_in64 hd, ?_⟩
    rw [ly_cl hd, pk_un (j := S ||| 2 ^ i) (by omega), hC _ hl hd]
    have hcb := ly_AHB k m (S ||| 2 ^ i)
    have hpb := ly_prB k m S i
    refine lx_join hk (by omega) (by omega) ⟨ly_in64 hS', ?_⟩
    rw [ly_cl hS', pk_us]
    refine pk_le (ly_mn (fun p => !S.testBit p) (ly_vA k m S) i) (ly_vA k m S i) (fun z => ?_) (fun z => ?_) rfl rfl (by omega) (by omega)
    · rw [if_pos z] at ih
      exact ⟨ly_in64 hS', ly_in64 hS', nm_r (ly_uu _ _ _ _) (nm_r (nI_1 i) ih)⟩
    · rw [if_neg (by omega)] at ih
      exact ⟨ly_in64 hS', nm_r (ly_uu _ _ _ _) (nm_r (nI_1 i) ih)⟩
  · rw [if_neg (by rw [hb]; decide)] at ih
    exact nm_r (nI_1 i) ih
theorem lx_fillAhead {post : SX → Prop} {na nc nw nh np nt : Nat → Int32} {m : Nat → Nat} {k : Nat} (N : ly_N na m) (hk : k < 5)
    (hp : ∀ A : Nat → Int32, (∀ T, T < 64 → A T = nI (ly_AH k m T)) → post (na, nc, nw, A, np, nt)) : wpX_fillAhead post (na, nc, nw, nh, np, nt) (nI k) := by
  have L : ∃ n, ∀ A : Nat → Int32, (∀ T, 63 ≤ T → T < 64 → A T = nI (ly_AH k m T)) → wX_fillAhead_11 post (nI k) n (nI 63 + (-1)) na nc nw A np nt := by
    refine ly_lpD (W := fun n e => ∀ A : Nat → Int32, (∀ T, e ≤ T → T < 64 → A T = nI (ly_AH k m T)) → wX_fillAhead_11 post (nI k) n (nI e + (-1)) na nc nw A np nt) 63
      (fun n A hA => br_t (by decide) (hp A (fun T hT => hA T (Nat.zero_le _) hT))) ?_
    intro n S hS ih A hA
    have hS' : S < 64 := by omega
    rw [pk_m1]
    refine br_f (nI_pos (by omega)) ⟨ly_in64 hS', nm_r (e' := upd A S 1000) (by rw [ly_cl hS']) ?_⟩
    refine lx_fa26 N hk hS (fun T h1 h2 => hA T (by omega) h2) (ih _ ?_)
    intro T h1 h2
    by_cases e : T = S
    · subst e; rw [pk_us]
    · rw [pk_un e]; exact hA T (by omega) h2
  obtain ⟨n, h⟩ := L
  refine nm_e ⟨n, h _ ?_⟩
  intro T h1 h2
  have e : T = 63 := by omega
  subst e
  rw [pk_us, ly_AH63]; rfl
theorem lx_leastOf {post : Int32 → SX → Prop} {na nc nw nh np nt : Nat → Int32} {m : Nat → Nat} {k : Nat} (N : ly_N na m) (hk : k < 5)
    (hp : ∀ C : Nat → Int32, post (nI (ly_CO k m 63)) (na, C, nw, nh, np, nt)) : wpX_leastOf post (na, nc, nw, nh, np, nt) (nI k) := by
  unfold wpX_leastOf
  refine lx_fillCost N hk ?_
  intro C hC
  show post (C 63) _
  rw [hC 63 (by decide)]
  exact hp C
end
section
/-! the component's counts of orders, and its first order -/
def ly_ft (k : Nat) (m : Nat → Nat) (L S p : Nat) : Bool := if k < 3 then decide (ly_pr k m (ly_df S (2 ^ p)) p ≤ L) else decide (ly_CO k m (ly_df S (2 ^ p)) + ly_pr k m (ly_df S (2 ^ p)) p = ly_CO k m S)
def ly_wy (k : Nat) (m : Nat → Nat) (L : Nat) : Nat → Nat → Nat
  | 0, _ => 1
  | d + 1, S => ly_s (fun p => if S.testBit p = true ∧ ly_ft k m L S p = true then ly_wy k m L d (ly_df S (2 ^ p)) else 0) 6
def ly_WY (k : Nat) (m : Nat → Nat) (L S : Nat) : Nat := ly_wy k m L (ly_pc S) S
def ly_fw (k : Nat) (m : Nat → Nat) (L S p : Nat) : Nat := if S.testBit p = true ∧ ly_ft k m L S p = true then ly_WY k m L (ly_df S (2 ^ p)) else 0
theorem ly_WY0 (k : Nat) (m : Nat → Nat) (L : Nat) : ly_WY k m L 0 = 1 := by
  unfold ly_WY
  rw [(ly_pc0 0 (by decide)).mpr rfl]; rfl
theorem ly_WYe (k : Nat) (m : Nat → Nat) (L : Nat) {S : Nat} (hS : S < 64) (h0 : S ≠ 0) : ly_WY k m L S = ly_s (ly_fw k m L S) 6 := by
  have h1 : ly_pc S ≠ 0 := fun z => h0 ((ly_pc0 S hS).mp z)
  obtain ⟨d, hd⟩ : ∃ d, ly_pc S = d + 1 := ⟨ly_pc S - 1, by omega⟩
  unfold ly_WY
  rw [hd]
  show ly_s (fun p => if S.testBit p = true ∧ ly_ft k m L S p = true then ly_wy k m L d (ly_df S (2 ^ p)) else 0) 6 = _
  apply ly_sC
  intro p hp
  unfold ly_fw
  by_cases hb : S.testBit p = true ∧ ly_ft k m L S p = true
  · have e : ly_pc (ly_df S (2 ^ p)) = d := by have := ly_pcDf S hS p hp hb.1; omega
    rw [if_pos hb, if_pos hb]
    unfold ly_WY
    rw [e]
  · rw [if_neg hb, if_neg hb]
theorem lx_oo38 {post : Int32 → SX → Prop} {J : Int32 → (Nat → Int32) → (Nat → Int32) → (Nat → Int32) → (Nat → Int32) → (Nat → Int32) → (Nat → Int32) → Prop} {na nc nw nh np nt : Nat → Int32} {m : Nat → Nat} {k L S : Nat} (N : ly_N na m) (hk : k < 5) (hL : L ≤ 1000) (hS : S < 64) (h0 : S ≠ 0)
    (hC : ∀ T, T < 64 → nc T = nI (ly_CO k m T)) (hW : ∀ T, T < S → nw T = nI (ly_WY k m L T)) (hJ : J (nI (S + 1)) na nc (upd nw S (nI (ly_WY k m L S))) nh np nt) :
    ∃ n, wX_ordersOf_38 post J (nI k) (nI L) (nI S) n 0 na nc (upd nw S 0) nh np nt := by
  rw [ly_WYe k m L hS h0] at hJ
  refine ly_lp (W := fun n i => wX_ordersOf_38 post J (nI k) (nI L) (nI S) n (nI i) na nc (upd nw S (nI (ly_s (ly_fw k m L S) i))) nh np nt) 6 0 (by decide)
    (fun n => br_t ly_66 (nm_r (nI_1 S) hJ)) ?_
  intro n i _ hi ih
  have es : ly_s (ly_fw k m L S) (i + 1) = ly_s (ly_fw k m L S) i + ly_fw k m L S i := rfl
  rw [es] at ih
  have hd : ly_df S (2 ^ i) < 64 := ly_dfL hS
  refine br_f (ly_6 hi) (nm_r (e' := nI (ly_df S (2 ^ i))) (by rw [ly_shl i hi, ly_ndf S hS _ (ly_pwL hi)]) (pk_eq (ly_df S (2 ^ i)) S (fun e => ?_) (fun ne => ?_) rfl rfl (by omega) (by omega)))
  · have hb := (ly_dfEq S hS i hi).mp e
    rw [show ly_fw k m L S i = 0 from if_neg (fun z => by rw [hb] at z; cases z.1), Nat.add_zero] at ih
    exact nm_r (nI_1 i) ih
  · have hb : S.testBit i = true := by
      cases h : S.testBit i
      · exact absurd ((ly_dfEq S hS i hi).mpr h) ne
      · rfl
    have hl := ly_dfLt S hS i hi hb
    have hcb := ly_COB k m (ly_df S (2 ^ i))
    have hcb2 := ly_COB k m S
    have hpb := ly_prB k m (ly_df S (2 ^ i)) i
    have no : ly_ft k m L S i = false → wX_ordersOf_115 post J (wX_ordersOf_38 post J (nI k) (nI L) (nI S) n) (nI k) (nI L) (nI S) (nI i) (nI (ly_df S (2 ^ i))) 0 na nc (upd nw S (nI (ly_s (ly_fw k m L S) i))) nh np nt := by
      intro hf
      rw [show ly_fw k m L S i = 0 from if_neg (fun z => by rw [hf] at z; cases z.2), Nat.add_zero] at ih
      unfold wX_ordersOf_115
      refine br_t rfl ⟨ly_in64 hS, ly_in64 hS, nm_r (e' := upd nw S (nI (ly_s (ly_fw k m L S) i))) ?_ (nm_r (nI_1 i) ih)⟩
      rw [ly_cl hS, pk_us, ly_uu]
    have yes : ly_ft k m L S i = true → wX_ordersOf_115 post J (wX_ordersOf_38 post J (nI k) (nI L) (nI S) n) (nI k) (nI L) (nI S) (nI i) (nI (ly_df S (2 ^ i))) 1 na nc (upd nw S (nI (ly_s (ly_fw k m L S) i))) nh np nt := by
      intro hf
      rw [show ly_fw k m L S i = ly_WY k m L (ly_df S (2 ^ i)) from if_pos ⟨hb, hf⟩] at ih
      unfold wX_ordersOf_115
      refine br_f (by decide) ⟨ly_in64 hS, ly_in64 hd, ly_in64 hS, nm_r (e' := upd nw S (nI (ly_s (ly_fw k m L S) i + ly_WY k m L (ly_df S (2 ^ i))))) ?_ (nm_r (nI_1 i) ih)⟩
      rw [ly_cl hS, ly_cl hd, pk_us, pk_un (j := ly_df S (2 ^ i)) (by omega), hW _ hl, ly_uu, nI_add]
    refine lx_price N hk hd hi ?_
    refine pk_lt k 3 (fun z => ?_) (fun z => ?_) rfl rfl (by omega) (by omega)
    · refine pk_lt L (ly_pr k m (ly_df S (2 ^ i)) i) (fun z2 => no ?_) (fun z2 => yes ?_) rfl rfl (by omega) (by omega)
      · unfold ly_ft; rw [if_pos z]; exact decide_eq_false (by omega)
      · unfold ly_ft; rw [if_pos z]; exact decide_eq_true z2
    · refine ⟨ly_in64 hd, ly_in64 hS, ?_⟩
      rw [ly_cl hS, ly_cl hd, hC _ hd, hC _ hS, nI_add]
      refine pk_eq (ly_CO k m (ly_df S (2 ^ i)) + ly_pr k m (ly_df S (2 ^ i)) i) (ly_CO k m S) (fun z2 => yes ?_) (fun z2 => no ?_) rfl rfl (by omega) (by omega)
      · unfold ly_ft; rw [if_neg (by omega)]; exact decide_eq_true z2
      · unfold ly_ft; rw [if_neg (by omega)]; exact decide_eq_false z2
theorem lx_ordersOf {post : Int32 → SX → Prop} {na nc nw nh np nt : Nat → Int32} {m : Nat → Nat} {k : Nat} (N : ly_N na m) (hk : k < 5)
    (hp : ∀ C W : Nat → Int32, post (nI (ly_WY k m (ly_CO k m 63) 63)) (na, C, W, nh, np, nt)) : wpX_ordersOf post (na, nc, nw, nh, np, nt) (nI k) := by
  unfold wpX_ordersOf
  refine lx_fillCost N hk ?_
  intro C hC
  have hL := ly_COB k m 63
  have Lp : ∃ n, ∀ W : Nat → Int32, (∀ T, T < 1 → W T = nI (ly_WY k m (ly_CO k m 63) T)) → wX_ordersOf_22 post (nI k) (nI (ly_CO k m 63)) n (nI 1) na C W nh np nt := by
    refine ly_lp (W := fun n S => ∀ W : Nat → Int32, (∀ T, T < S → W T = nI (ly_WY k m (ly_CO k m 63) T)) → wX_ordersOf_22 post (nI k) (nI (ly_CO k m 63)) n (nI S) na C W nh np nt) 64 1 (by decide) ?_ ?_
    · intro n W hW
      refine br_t (nI_le (a := 64) (b := 64) (by decide) (by decide)) ?_
      rw [hW 63 (by decide)]
      exact hp C W
    · intro n S h1 hS ih W hW
      refine br_f (nI_ge (b := 64) hS (by decide)) ⟨ly_in64 hS, nm_r (e' := upd W S 0) (by rw [ly_cl hS]) ?_⟩
      refine lx_oo38 N hk hL hS (by omega) hC hW (ih _ ?_)
      intro T hT
      by_cases e : T = S
      · subst e; rw [pk_us]
      · rw [pk_un e]; exact hW T (by omega)
  obtain ⟨n, h⟩ := Lp
  refine nm_r (e' := nI (ly_CO k m 63)) (hC 63 (by decide)) (nm_e ⟨n, h _ ?_⟩)
  intro T hT
  have e : T = 0 := by omega
  subst e
  rw [pk_us, ly_WY0]; rfl
/-- what the search for the next point asks of p, behind the set S, with s spent -/
def ly_Q (k : Nat) (m : Nat → Nat) (S s p : Nat) : Prop := S.testBit p = false ∧ ly_J k (ly_J k s (ly_pr k m S p)) (ly_AH k m (S ||| 2 ^ p)) = ly_AH k m 0
theorem lx_oa29 {post : Int32 → SX → Prop} {J : Int32 → Int32 → Int32 → Int32 → Prop} {na nc nw nh np nt : Nat → Int32} {m : Nat → Nat} {k S s q i : Nat} {x2 : Int32} (N : ly_N na m) (hk : k < 5) (hS : S < 64) (hs : s ≤ 2000) (hq : q < 6)
    (hA : ∀ T, T < 64 → nh T = nI (ly_AH k m T)) (hQ : ly_Q k m S s q) (hQ2 : ∀ p, p < q → ¬ ly_Q k m S s p)
    (hJ : J (nI (S ||| 2 ^ q)) (nI (ly_J k s (ly_pr k m S q))) (nI q) (nI (i + 1))) (x5 : Int32) :
    ∃ n, wX_orderAt_29 post J (nI k) x2 (nI S) (nI s) (nI i) na nc nw nh np nt n x5 0 5 := by
  have L : ∃ n, ∀ x5 x7 : Int32, (6 ≤ q → x5 = nI q ∧ x7 = nI (ly_J k s (ly_pr k m S q))) → wX_orderAt_29 post J (nI k) x2 (nI S) (nI s) (nI i) na nc nw nh np nt n x5 x7 (nI 6 + (-1)) := by
    refine ly_lpD (W := fun n e => ∀ x5 x7 : Int32, (e ≤ q → x5 = nI q ∧ x7 = nI (ly_J k s (ly_pr k m S q))) → wX_orderAt_29 post J (nI k) x2 (nI S) (nI s) (nI i) na nc nw nh np nt n x5 x7 (nI e + (-1))) 6 ?_ ?_
    · intro n x5 x7 h
      obtain ⟨rfl, rfl⟩ := h (Nat.zero_le _)
      exact br_t (by decide) (nm_r (by rw [ly_shl q hq, ly_or]) (nm_r (nI_1 i) hJ))
    · intro n e he ih x5 x7 h
      rw [pk_m1]
      have hd : S ||| 2 ^ e < 64 := ly_orL hS (ly_pwL he)
      refine br_f (nI_pos (by omega)) (ly_br0 hS he (fun hb => ?_) (fun hb => ?_))
      · have hpb := ly_prB k m S e
        have hab := ly_AHB k m (S ||| 2 ^ e)
        have hab0 := ly_AHB k m 0
        have hj1 := ly_JB (k := k) hs hpb
        have hj2 := ly_JB (k := k) hj1 hab
        refine lx_price N hk hS he (lx_join hk (by omega) (by omega) ?_)
        rw [ly_shl e he, ly_or]
        refine ⟨ly_in64 hd, ?_⟩
        rw [ly_cl hd, hA _ hd]
        refine lx_join hk (by omega) (by omega) ?_
        rw [hA 0 (by decide)]
        refine pk_eq (ly_J k (ly_J k s (ly_pr k m S e)) (ly_AH k m (S ||| 2 ^ e))) (ly_AH k m 0) (fun z => ?_) (fun z => ?_) rfl rfl (by omega) (by omega)
        · refine nm_e (ih _ _ ?_)
          intro hle
          have e1 : e = q := by
            rcases Nat.lt_or_ge e q with y | y
            · exact absurd ⟨hb, z⟩ (hQ2 e y)
            · omega
          subst e1
          exact ⟨rfl, rfl⟩
        · refine nm_e (ih _ _ ?_)
          intro hle
          rcases Nat.lt_or_ge e q with y | y
          · exact h y
          · have e1 : e = q := by omega
            subst e1
            exact absurd hQ.2 z
      · refine nm_e (ih _ _ ?_)
        intro hle
        rcases Nat.lt_or_ge e q with y | y
        · exact h y
        · have e1 : e = q := by omega
          subst e1
          rw [hQ.1] at hb; cases hb
  obtain ⟨n, h⟩ := L
  exact ⟨n, h x5 0 (fun z => absurd z (by omega))⟩
/-- the points of an order's first i places; what they cost -/
def ly_pm (r : Nat → Nat) : Nat → Nat
  | 0 => 0
  | i + 1 => ly_pm r i ||| 2 ^ r i
def ly_rn (k : Nat) (m : Nat → Nat) (r : Nat → Nat) : Nat → Nat
  | 0 => 0
  | i + 1 => ly_J k (ly_rn k m r i) (ly_pr k m (ly_pm r i) (r i))
theorem ly_pmL {r : Nat → Nat} : ∀ i, (∀ j, j < i → r j < 6) → ly_pm r i < 64 := by
  intro i
  induction i with
  | zero => intro _; show 0 < 64; decide
  | succ i ih => intro h; exact ly_orL (ih (fun j hj => h j (by omega))) (ly_pwL (h i (by omega)))
theorem ly_rnB (k : Nat) (m : Nat → Nat) (r : Nat → Nat) : ∀ i, ly_rn k m r i ≤ 36 * i := by
  intro i
  induction i with
  | zero => exact Nat.le_refl _
  | succ i ih =>
    have := ly_JB (k := k) ih (ly_prB k m (ly_pm r i) (r i))
    show ly_J k (ly_rn k m r i) (ly_pr k m (ly_pm r i) (r i)) ≤ _
    omega
theorem lx_orderAt {post : Int32 → SX → Prop} {na nc nw nh np nt : Nat → Int32} {m : Nat → Nat} {k pl : Nat} {r : Nat → Nat} (N : ly_N na m) (hk : k < 5) (hpl : pl < 6) (hr : ∀ i, i < 6 → r i < 6)
    (hQ : ∀ i, i ≤ pl → ly_Q k m (ly_pm r i) (ly_rn k m r i) (r i) ∧ ∀ p, p < r i → ¬ ly_Q k m (ly_pm r i) (ly_rn k m r i) p)
    (hp : ∀ A : Nat → Int32, post (nI (r pl)) (na, nc, nw, A, np, nt)) : wpX_orderAt post (na, nc, nw, nh, np, nt) (nI k) (nI pl) := by
  unfold wpX_orderAt
  refine lx_fillAhead N hk ?_
  intro A hA
  have L : ∃ n, ∀ x5 : Int32, (1 ≤ 0 → x5 = nI (r (0 - 1))) → wX_orderAt_17 post (nI k) (nI pl) na nc nw A np nt n (nI (ly_pm r 0)) (nI (ly_rn k m r 0)) x5 (nI 0) := by
    refine ly_lp (W := fun n i => ∀ x5 : Int32, (1 ≤ i → x5 = nI (r (i - 1))) → wX_orderAt_17 post (nI k) (nI pl) na nc nw A np nt n (nI (ly_pm r i)) (nI (ly_rn k m r i)) x5 (nI i)) (pl + 1) 0 (by omega) ?_ ?_
    · intro n x5 h
      have e := h (by omega)
      rw [show pl + 1 - 1 = pl from rfl] at e
      subst e
      exact br_t (nI_lt (by omega) (by omega)) (hp A)
    · intro n i _ hi ih x5 h
      have hrn := ly_rnB k m r i
      refine br_f (nI_nlt (by omega) (by omega)) ?_
      exact lx_oa29 N hk (ly_pmL i (fun j hj => hr j (by omega))) (by omega) (hr i (by omega)) hA (hQ i (by omega)).1 (hQ i (by omega)).2 (ih (nI (r i)) (fun _ => rfl)) x5
  obtain ⟨n, h⟩ := L
  exact ⟨n, h (-4) (fun z => absurd z (by omega))⟩
end
section
/-! the component's search for an order of little stretch -/
/-- the point at place i of r has no line that reaches back more than far -/
def ly_ok (m : Nat → Nat) (far : Nat) (r : Nat → Nat) (i : Nat) : Prop := ∀ j, j + far < i → (m (r i)).testBit (r j) = false
def ly_G (m : Nat → Nat) (far : Nat) : Prop := ∃ r : Nat → Nat, (∀ j, j < 6 → r j < 6) ∧ (∀ i, i < 6 → ∀ j, j < i → r i ≠ r j) ∧ ∀ i, i < 6 → ly_ok m far r i
def ly_X (m : Nat → Nat) (far d : Nat) (r : Nat → Nat) (t : Nat) : Prop := ∃ r' : Nat → Nat, (∀ j, j < d → r' j = r j) ∧ (∀ j, j < 6 → r' j < 6) ∧ (∀ i, i < 6 → ∀ j, j < i → r' i ≠ r' j) ∧ (∀ i, i < 6 → d ≤ i → ly_ok m far r' i) ∧ t ≤ r' d
theorem lx_reach {post : Int32 → Prop} {na nc nw nh np nt : Nat → Int32} {m : Nat → Nat} {r : Nat → Nat} {p d far : Nat} (N : ly_N na m) (hp : p < 6) (hd : d < 6) (hf : far < 6) (hr : ∀ j, j < d → np j = nI (r j) ∧ r j < 6)
    (h1 : (∀ j, j + far < d → (m p).testBit (r j) = false) → post 1) (h0 : (∃ j, j + far < d ∧ (m p).testBit (r j) = true) → post 0) : wpX_reaches post (na, nc, nw, nh, np, nt) (nI p) (nI d) (nI far) := by
  have L : ∃ n, (∀ j, j < 0 → (m p).testBit (r j) = false) → wX_reaches_3 post (nI p) (nI d) (nI far) na nc nw nh np nt n (nI 0) := by
    refine ly_lp (W := fun n i => (∀ j, j < i → (m p).testBit (r j) = false) → wX_reaches_3 post (nI p) (nI d) (nI far) na nc nw nh np nt n (nI i)) (d - far) 0 (by omega) ?_ ?_
    · intro n h
      refine br_t ?_ (h1 (fun j hj => h j (by omega)))
      rcases Nat.lt_or_ge d far with z | z
      · rw [show d - far = 0 from by omega, nI_0]
        have hx := pk_sneg (a := d) (b := far) (by omega) z
        exact Int32.le_of_lt hx
      · rw [pk_sub z]; exact nI_le (Nat.le_refl _) (by omega)
    · intro n i _ hi ih h
      have hdf : far ≤ d := by omega
      refine br_f (by rw [pk_sub hdf]; exact nI_ge hi (by omega)) ⟨ly_in6 hp, ly_in6 (by omega), ?_⟩
      rw [ly_cl (i := p) (by omega), ly_cl (i := i) (by omega), (hr i (by omega)).1, (N p hp).1]
      refine ly_br1 (N p hp).2 (hr i (by omega)).2 (fun hb => h0 ⟨i, by omega, hb⟩) (fun hb => nm_r (nI_1 i) (ih ?_))
      intro j hj
      rcases Nat.lt_or_ge j i with z | z
      · exact h j z
      · have e : j = i := by omega
        rw [e]; exact hb
  obtain ⟨n, h⟩ := L
  exact ⟨n, h (fun j hj => absurd hj (by omega))⟩
def ly_B : Nat → Nat
  | 0 => 6
  | e + 1 => (5 - e) + (e + 1) * (2 + ly_B e)
def ly_T (S b : Nat) : Nat → Nat
  | 0 => 0
  | c + 1 => (if S.testBit (5 - c) = true then 1 else b) + ly_T S b c
theorem ly_TB : ∀ S, S < 64 → ∀ e, e < 6 → ly_pc S = 5 - e → ly_T S (2 + ly_B e) 6 = ly_B (e + 1) := by decide +kernel
theorem ly_TS {S b t : Nat} (ht : t < 6) : ly_T S b (6 - t) = (if S.testBit t = true then 1 else b) + ly_T S b (6 - (t + 1)) := by
  obtain ⟨c, hc⟩ : ∃ c, 6 - t = c + 1 := ⟨5 - t, by omega⟩
  have e1 : 6 - (t + 1) = c := by omega
  have e2 : 5 - c = t := by omega
  rw [hc, e1]
  show (if S.testBit (5 - c) = true then 1 else b) + ly_T S b c = _
  rw [e2]
/-- membership in the set of the first places -/
theorem ly_pmT {r : Nat → Nat} {q : Nat} : ∀ i, (ly_pm r i).testBit q = true ↔ ∃ j, j < i ∧ r j = q := by
  intro i
  induction i with
  | zero => exact ⟨fun h => absurd h (by show ¬ (Nat.testBit 0 q = true); simp), fun ⟨j, hj, _⟩ => absurd hj (by omega)⟩
  | succ i ih =>
    show (ly_pm r i ||| 2 ^ r i).testBit q = true ↔ _
    rw [Nat.testBit_or, Bool.or_eq_true, ih, ly_pwT, decide_eq_true_eq]
    constructor
    · rintro (⟨j, hj, h⟩ | h)
      · exact ⟨j, by omega, h⟩
      · exact ⟨i, by omega, h⟩
    · rintro ⟨j, hj, h⟩
      rcases Nat.lt_or_ge j i with z | z
      · exact Or.inl ⟨j, z, h⟩
      · have e : j = i := by omega
        rw [← e]; exact Or.inr h
theorem ly_pmC {r r' : Nat → Nat} : ∀ i, (∀ j, j < i → r j = r' j) → ly_pm r i = ly_pm r' i := by
  intro i
  induction i with
  | zero => intro _; rfl
  | succ i ih =>
    intro h
    show ly_pm r i ||| 2 ^ r i = ly_pm r' i ||| 2 ^ r' i
    rw [ih (fun j hj => h j (by omega)), h i (by omega)]
theorem ly_pmP {r : Nat → Nat} : ∀ i, i ≤ 6 → (∀ j, j < i → r j < 6) → (∀ a, a < i → ∀ b, b < a → r a ≠ r b) → ly_pc (ly_pm r i) = i := by
  intro i
  induction i with
  | zero => intro _ _ _; exact (ly_pc0 0 (by decide)).mpr rfl
  | succ i ih =>
    intro h6 hr hd
    have hb : (ly_pm r i).testBit (r i) = false := by
      cases h : (ly_pm r i).testBit (r i)
      · rfl
      · obtain ⟨j, hj, e⟩ := (ly_pmT i).mp h
        exact absurd e.symm (hd i (by omega) j hj)
    show ly_pc (ly_pm r i ||| 2 ^ r i) = i + 1
    rw [ly_pcOr _ (ly_pmL i (fun j hj => hr j (by omega))) _ (hr i (by omega)) hb, ih (by omega) (fun j hj => hr j (by omega)) (fun a ha b hb => hd a (by omega) b hb)]
section
variable {post : Int32 → SX → Prop} {na nc nw nh : Nat → Int32} {m : Nat → Nat} {far : Nat}
/-- the search at depth d, in round R -/
def lx_V (post : Int32 → SX → Prop) (far : Nat) (na nc nw nh : Nat → Int32) (R d S : Nat) (np nt : Nat → Int32) : Prop := wX_fits_14 post (nI far) (20001 - R) (nI d) (nI S) (nI R) na nc nw nh np nt
theorem lx_V6 {R S : Nat} {np nt : Nat → Int32} (hR : R < 20000) (h : post 1 (na, nc, nw, nh, np, nt)) : lx_V post far na nc nw nh R 6 S np nt := by
  unfold lx_V
  rw [show 20001 - R = (20000 - R) + 1 from by omega]
  exact br_f (nI_ge (b := 20000) hR (by decide)) (br_f (by decide) (br_t rfl h))
/-- one point more is passed by -/
theorem lx_Vn {R d S t : Nat} {np nt : Nat → Int32} {r : Nat → Nat} (N : ly_N na m) (hf : far < 6) (hR : R < 20000) (hd : d < 6) (hS : S < 64) (ht : t < 6) (htr : nt d = nI t) (hr : ∀ j, j < d → np j = nI (r j) ∧ r j < 6)
    (hskip : (S.testBit t = true ∨ ∃ j, j + far < d ∧ (m t).testBit (r j) = true) → lx_V post far na nc nw nh (R + 1) d S np (upd nt d (nI (t + 1))))
    (hgo : S.testBit t = false → (∀ j, j + far < d → (m t).testBit (r j) = false) → ∀ nt' : Nat → Int32, (∀ j, j ≤ d → nt' j = upd nt d (nI (t + 1)) j) → (d + 1 < 6 → nt' (d + 1) = nI 0) → lx_V post far na nc nw nh (R + 1) (d + 1) (S ||| 2 ^ t) (upd np d (nI t)) nt') :
    lx_V post far na nc nw nh R d S np nt := by
  unfold lx_V at hskip hgo ⊢
  rw [show 20001 - R = (20001 - (R + 1)) + 1 from by omega]
  have hd7 : vp_in (nI d) 7 := vp_in_nI (by omega) (by decide)
  refine br_f (nI_ge (b := 20000) hR (by decide)) (br_f (nI_pos (by omega)) (pk_eq d 6 (fun z => absurd z (by omega)) (fun _ => ⟨hd7, ?_⟩) rfl rfl (by omega) (by omega)))
  rw [ly_cl (i := d) (by omega), htr]
  refine pk_eq t 6 (fun z => absurd z (by omega)) (fun _ => ⟨hd7, ?_⟩) rfl rfl (by omega) (by omega)
  refine nm_e ⟨hd7, nm_r (e' := upd nt d (nI (t + 1))) (by rw [nI_1]) (ly_br0 hS ht (fun hb => ?_) (fun hb => ?_))⟩
  · refine lx_reach N ht hd hf hr (fun hq => br_f (by decide) ⟨ly_in6 hd, ?_⟩) (fun hq => br_t rfl (nm_r (nI_1 R) (hskip (Or.inr hq))))
    refine nm_e (nm_r (e' := nI (S ||| 2 ^ t)) (by rw [ly_shl t ht, ly_or]) (nm_r (nI_1 d) (pk_le 6 (d + 1) (fun z => ?_) (fun z => ⟨vp_in_nI (by omega) (by decide), ?_⟩) rfl rfl (by omega) (by omega))))
    · exact nm_r (nI_1 R) (hgo hb hq _ (fun j _ => rfl) (fun z2 => absurd z2 (by omega)))
    · refine nm_r (e' := upd (upd nt d (nI (t + 1))) (d + 1) 0) (by rw [ly_cl (i := d + 1) (by omega)]) (nm_r (nI_1 R) (hgo hb hq _ (fun j hj => pk_un (by omega)) (fun _ => pk_us)))
  · exact nm_r (nI_1 R) (hskip (Or.inl hb))
/-- all points were tried: one place back -/
theorem lx_Vp {R d S q : Nat} {np nt : Nat → Int32} (hR : R < 20000) (hd : d + 1 < 6) (hS : S < 64) (htr : nt (d + 1) = nI 6) (hq : q < 6) (hp : np d = nI q)
    (h : lx_V post far na nc nw nh (R + 1) d (ly_df S (2 ^ q)) np nt) : lx_V post far na nc nw nh R (d + 1) S np nt := by
  unfold lx_V at h ⊢
  rw [show 20001 - R = (20001 - (R + 1)) + 1 from by omega]
  have hd7 : vp_in (nI (d + 1)) 7 := vp_in_nI (by omega) (by decide)
  refine br_f (nI_ge (b := 20000) hR (by decide)) (br_f (nI_pos (by omega)) (pk_eq (d + 1) 6 (fun z => absurd z (by omega)) (fun _ => ⟨hd7, ?_⟩) rfl rfl (by omega) (by omega)))
  rw [ly_cl (i := d + 1) (by omega), htr]
  refine br_t rfl (nm_r (pk_m1 d) (br_f (nI_pos (by omega)) ⟨ly_in6 (by omega), ?_⟩))
  rw [ly_cl (i := d) (by omega), hp, ly_shl q hq]
  exact nm_r (ly_ndf S hS _ (ly_pwL hq)) (nm_r (nI_1 R) h)
theorem lx_Vz {R S : Nat} {np nt : Nat → Int32} (hR : R + 1 < 20000) (htr : nt 0 = nI 6) (h : post 0 (na, nc, nw, nh, np, nt)) : lx_V post far na nc nw nh R 0 S np nt := by
  unfold lx_V
  rw [show 20001 - R = (20000 - (R + 1)) + 1 + 1 from by omega]
  refine br_f (nI_ge (b := 20000) (by omega) (by decide)) (br_f (nI_pos (by omega)) (br_f (by decide) ⟨vp_in_nI (by decide) (by decide), ?_⟩))
  rw [ly_cl (i := 0) (by omega), htr]
  refine br_t rfl (nm_e (br_t (by decide) (nm_r (nI_1 R) ?_)))
  exact br_f (nI_ge (b := 20000) hR (by decide)) (br_t (by decide) h)
theorem lx_VS (N : ly_N na m) (hf : far < 6) (H1 : ly_G m far → ∀ np nt : Nat → Int32, post 1 (na, nc, nw, nh, np, nt)) :
    ∀ e d, d + e = 6 → ∀ (r : Nat → Nat) (c t : Nat), t + c = 6 → ∀ (np nt : Nat → Int32) (R : Nat), (∀ j, j < d → np j = nI (r j) ∧ r j < 6) → (∀ a, a < d → ∀ b, b < a → r a ≠ r b) → (∀ i, i < d → ly_ok m far r i) → (d < 6 → nt d = nI t) →
      R + ly_T (ly_pm r d) (2 + ly_B (e - 1)) (6 - t) < 20000 →
      (¬ ly_X m far d r t → ∀ (np' nt' : Nat → Int32) (R' : Nat), (∀ j, j < d → np' j = np j) → (∀ j, j < d → nt' j = nt j) → (d < 6 → nt' d = nI 6) → R' ≤ R + ly_T (ly_pm r d) (2 + ly_B (e - 1)) (6 - t) → lx_V post far na nc nw nh R' d (ly_pm r d) np' nt') →
      lx_V post far na nc nw nh R d (ly_pm r d) np nt := by
  intro e
  induction e with
  | zero =>
    intro d hd r c t _ np nt R hnp hdis hok _ hR _
    have e6 : d = 6 := by omega
    subst e6
    exact lx_V6 (by omega) (H1 ⟨r, fun j hj => (hnp j hj).2, hdis, hok⟩ np nt)
  | succ e IHe =>
    intro d hde r c
    have hd : d < 6 := by omega
    induction c with
    | zero =>
      intro t htc np nt R hnp hdis hok htr hR Hc
      refine Hc ?_ np nt R (fun _ _ => rfl) (fun _ _ => rfl) ?_ (by omega)
      · rintro ⟨r', _, h6, _, _, h⟩
        have := h6 d hd
        omega
      · intro z; rw [htr z]; exact congrArg nI (by omega)
    | succ c IHc =>
      intro t htc np nt R hnp hdis hok htr hR Hc
      have ht : t < 6 := by omega
      have hS : ly_pm r d < 64 := ly_pmL d (fun j hj => (hnp j hj).2)
      rw [ly_TS ht] at hR Hc
      rw [show e + 1 - 1 = e from rfl] at hR Hc IHc
      refine lx_Vn (r := r) N hf (by omega) hd hS ht (htr hd) hnp ?_ ?_
      · intro hno
        refine IHc (t + 1) (by omega) np (upd nt d (nI (t + 1))) (R + 1) hnp hdis hok (fun _ => pk_us) ?_ ?_
        · have : 1 ≤ (if (ly_pm r d).testBit t = true then 1 else 2 + ly_B e) := by split <;> omega
          omega
        · intro hX np' nt' R' g1 g2 g3 g4
          have h1 : 1 ≤ (if (ly_pm r d).testBit t = true then 1 else 2 + ly_B e) := by split <;> omega
          refine Hc ?_ np' nt' R' g1 (fun j hj => by rw [g2 j hj, pk_un (by omega)]) g3 (by omega)
          rintro ⟨r', q1, q2, q3, q4, q5⟩
          apply hX
          refine ⟨r', q1, q2, q3, q4, ?_⟩
          rcases Nat.lt_or_ge t (r' d) with z | z
          · exact z
          · have et : r' d = t := by omega
            rcases hno with hb | ⟨j, hj, hb⟩
            · obtain ⟨j, hj, ej⟩ := (ly_pmT d).mp hb
              exact absurd (by rw [et, q1 j hj, ej]) (q3 d hd j hj)
            · have := q4 d hd (Nat.le_refl _) j hj
              rw [et, q1 j (by omega), hb] at this
              cases this
      · intro hb hq nt' hn1 hn2
        have erd : ∀ j, j < d → (if j = d then t else r j) = r j := fun j hj => if_neg (by omega)
        have epm : ly_pm (fun j => if j = d then t else r j) (d + 1) = ly_pm r d ||| 2 ^ t := by
          show ly_pm (fun j => if j = d then t else r j) d ||| 2 ^ (if d = d then t else r d) = _
          rw [ly_pmC d erd, if_pos rfl]
        have hS2 : ly_pm r d ||| 2 ^ t < 64 := ly_orL hS (ly_pwL ht)
        rw [if_neg (by rw [hb]; decide)] at hR Hc
        have hpc : ly_pc (ly_pm r d) = d := ly_pmP d (by omega) (fun j hj => (hnp j hj).2) hdis
        have hTB : ly_T (ly_pm r d ||| 2 ^ t) (2 + ly_B (e - 1)) 6 ≤ ly_B e := by
          rcases Nat.eq_zero_or_pos e with z | z
          · subst z
            have e5 : d = 5 := by omega
            have h6 : ly_pm r d ||| 2 ^ t = 63 := (ly_pc6 _ hS2).mp (by rw [ly_pcOr _ hS t ht hb, hpc, e5])
            rw [h6]
            decide
          · obtain ⟨e', rfl⟩ : ∃ e', e = e' + 1 := ⟨e - 1, by omega⟩
            rw [show e' + 1 - 1 = e' from rfl, ly_TB _ hS2 e' (by omega) (by rw [ly_pcOr _ hS t ht hb, hpc]; omega)]
            exact Nat.le_refl _
        have hTB' : ly_T (ly_pm r d ||| 2 ^ t) (2 + ly_B (e - 1)) (6 - 0) ≤ ly_B e := hTB
        rw [← epm]
        refine IHe (d + 1) (by omega) (fun j => if j = d then t else r j) 6 0 rfl (upd np d (nI t)) nt' (R + 1) ?_ ?_ ?_ hn2 ?_ ?_
        · intro j hj
          by_cases z : j = d
          · subst z; rw [if_pos rfl, pk_us]; exact ⟨rfl, ht⟩
          · rw [if_neg z, pk_un z]; exact hnp j (by omega)
        · intro a ha b hba
          rw [if_neg (show ¬ b = d by omega)]
          by_cases z : a = d
          · subst z
            rw [if_pos rfl]
            intro ez
            rw [(ly_pmT a).mpr ⟨b, hba, ez.symm⟩] at hb
            cases hb
          · rw [if_neg z]; exact hdis a (by omega) b hba
        · intro i hi j hj
          dsimp only
          rw [if_neg (show ¬ j = d by omega)]
          by_cases z : i = d
          · subst z; rw [if_pos rfl]; exact hq j hj
          · rw [if_neg z]; exact hok i (by omega) j hj
        · rw [epm]; omega
        · intro hX np' nt2 R' g1 g2 g3 g4
          rw [epm] at g4 ⊢
          rcases Nat.lt_or_ge (d + 1) 6 with z6 | z6
          · refine lx_Vp (q := t) (by omega) z6 hS2 (g3 z6) ht (by rw [g1 d (by omega), pk_us]) ?_
            rw [ly_orDf hS ht hb]
            refine IHc (t + 1) (by omega) np' nt2 (R' + 1) ?_ hdis hok (fun _ => by rw [g2 d (by omega), hn1 d (Nat.le_refl _), pk_us]) ?_ ?_
            · intro j hj
              rw [g1 j (by omega), pk_un (by omega)]; exact hnp j hj
            · omega
            · intro hX2 np3 nt3 R3 k1 k2 k3 k4
              refine Hc ?_ np3 nt3 R3 (fun j hj => by rw [k1 j hj, g1 j (by omega), pk_un (by omega)]) (fun j hj => by rw [k2 j hj, g2 j (by omega), hn1 j (by omega), pk_un (by omega)]) k3 (by omega)
              rintro ⟨r', q1, q2, q3, q4, q5⟩
              rcases Nat.lt_or_ge t (r' d) with z | z
              · exact hX2 ⟨r', q1, q2, q3, q4, z⟩
              · have et : r' d = t := by omega
                apply hX
                refine ⟨r', ?_, q2, q3, fun i hi h => q4 i hi (by omega), Nat.zero_le _⟩
                intro j hj
                by_cases y : j = d
                · dsimp only; rw [if_pos y, y]; exact et
                · dsimp only; rw [if_neg y]; exact q1 j (by omega)
          · have e6 : d + 1 = 6 := by omega
            have hG : ly_G m far := by
              refine ⟨fun j => if j = d then t else r j, ?_, ?_, ?_⟩
              · intro j hj
                by_cases y : j = d
                · subst y; dsimp only; rw [if_pos rfl]; exact ht
                · dsimp only; rw [if_neg y]; exact (hnp j (by omega)).2
              · intro a ha b hba
                dsimp only
                rw [if_neg (show ¬ b = d by omega)]
                by_cases y : a = d
                · subst y
                  rw [if_pos rfl]
                  intro ez
                  rw [(ly_pmT a).mpr ⟨b, hba, ez.symm⟩] at hb
                  cases hb
                · rw [if_neg y]; exact hdis a (by omega) b hba
              · intro i hi j hj
                dsimp only
                rw [if_neg (show ¬ j = d by omega)]
                by_cases y : i = d
                · subst y; rw [if_pos rfl]; exact hq j hj
                · rw [if_neg y]; exact hok i (by omega) j hj
            rw [e6]
            exact lx_V6 (by omega) (H1 hG _ _)
theorem lx_fits {np nt : Nat → Int32} (N : ly_N na m) (hf : far < 6) (H1 : ly_G m far → ∀ np nt : Nat → Int32, post 1 (na, nc, nw, nh, np, nt)) (H0 : ¬ ly_G m far → ∀ np nt : Nat → Int32, post 0 (na, nc, nw, nh, np, nt)) : wpX_fits post (na, nc, nw, nh, np, nt) (nI far) := by
  have hT : ly_T 0 (2 + ly_B 5) 6 < 19990 := by decide
  have h := lx_VS N hf H1 6 0 rfl (fun _ => 0) 6 0 rfl np (upd nt 0 0) 0 (fun j hj => absurd hj (by omega)) (fun a ha => absurd ha (by omega)) (fun i hi => absurd hi (by omega)) (fun _ => pk_us) ?_ ?_
  · exact nm_e ⟨_, h⟩
  · show 0 + ly_T 0 (2 + ly_B 5) 6 < 20000
    omega
  · intro hX np' nt' R' _ _ g3 g4
    have g4' : R' ≤ 0 + ly_T 0 (2 + ly_B 5) 6 := g4
    refine lx_Vz (by omega) (g3 (by decide)) (H0 ?_ np' nt')
    rintro ⟨r, h1, h2, h3⟩
    exact hX ⟨r, fun j hj => absurd hj (by omega), h1, h2, fun i hi _ => h3 i hi, Nat.zero_le _⟩
theorem lx_stretch {np nt : Nat → Int32} (N : ly_N na m) (hp : ∀ (L : Nat) (np nt : Nat → Int32), L ≤ 5 → (∀ f, f < L → ¬ ly_G m f) → (L < 5 → ly_G m L) → post (nI L) (na, nc, nw, nh, np, nt)) : wpX_stretch post (na, nc, nw, nh, np, nt) := by
  have L : ∃ n, ∀ np nt : Nat → Int32, (∀ f, f < 0 → ¬ ly_G m f) → wX_stretch_2 post n (nI 0) na nc nw nh np nt := by
    refine ly_lp (W := fun n i => ∀ np nt : Nat → Int32, (∀ f, f < i → ¬ ly_G m f) → wX_stretch_2 post n (nI i) na nc nw nh np nt) 5 0 (by decide) ?_ ?_
    · intro n np nt h
      exact br_t (nI_le (a := 5) (b := 5) (by decide) (by decide)) (hp 5 np nt (by decide) h (fun z => absurd z (by omega)))
    · intro n i _ hi ih np nt h
      refine br_f (nI_ge (b := 5) hi (by decide)) (lx_fits N (by omega) (fun hG np' nt' => ?_) (fun hG np' nt' => ?_))
      · exact br_f (by decide) (hp i np' nt' (by omega) h (fun _ => hG))
      · refine br_t rfl (nm_r (nI_1 i) (ih np' nt' ?_))
        intro f hf
        rcases Nat.lt_or_ge f i with z | z
        · exact h f z
        · have e : f = i := by omega
          rw [e]; exact hG
  obtain ⟨n, h⟩ := L
  exact ⟨n, h np nt (fun f hf => absurd hf (by omega))⟩
end
end
section
/-! cliques, on both sides -/
def ly_Sy (m : Nat → Nat) : Prop := (∀ p, p < 6 → ∀ q, q < 6 → (m p).testBit q = (m q).testBit p) ∧ ∀ p, p < 6 → (m p).testBit p = false
def ly_cqP (m : Nat → Nat) (S p : Nat) : Bool := !S.testBit p || decide (ly_df (ly_df S (m p)) (2 ^ p) = 0)
def ly_cqT (m : Nat → Nat) (S : Nat) : Nat → Bool
  | 0 => true
  | i + 1 => ly_cqT m S i && ly_cqP m S i
def ly_cq (m : Nat → Nat) (S : Nat) : Bool := ly_cqT m S 6
def ly_cm (m : Nat → Nat) : Nat → Nat
  | 0 => 0
  | j + 1 => if ly_cq m j = true ∧ ly_cm m j < ly_pc j then ly_pc j else ly_cm m j
theorem ly_cqTi {m : Nat → Nat} {S : Nat} : ∀ n, ly_cqT m S n = true ↔ ∀ i, i < n → ly_cqP m S i = true := by
  intro n
  induction n with
  | zero => exact ⟨fun _ i hi => absurd hi (by omega), fun _ => rfl⟩
  | succ n ih =>
    show (ly_cqT m S n && ly_cqP m S n) = true ↔ _
    rw [Bool.and_eq_true, ih]
    constructor
    · rintro ⟨h, h2⟩ i hi
      rcases Nat.lt_or_ge i n with z | z
      · exact h i z
      · have e : i = n := by omega
        rw [e]; exact h2
    · intro h
      exact ⟨fun i hi => h i (by omega), h n (by omega)⟩
theorem ly_z {a : Nat} (ha : a < 64) : a = 0 ↔ ∀ i, i < 6 → a.testBit i = false := by
  constructor
  · intro h i _; rw [h]; simp
  · intro h
    apply ly_ext ha (by decide)
    intro i hi
    rw [h i hi]; simp
theorem ly_cqI {m : Nat → Nat} {S : Nat} (hS : S < 64) : ly_cq m S = true ↔ ∀ p, p < 6 → ∀ q, q < 6 → S.testBit p = true → S.testBit q = true → p ≠ q → (m p).testBit q = true := by
  unfold ly_cq
  rw [ly_cqTi]
  constructor
  · intro h p hp q hq h1 h2 ne
    have := h p hp
    unfold ly_cqP at this
    rw [h1] at this
    have z := (ly_z (ly_dfL (ly_dfL hS))).mp (by simpa using this) q hq
    rw [ly_dfT _ _ _ hq, ly_dfT _ _ _ hq, ly_pwT, h2] at z
    simpa [ne] using z
  · intro h p hp
    unfold ly_cqP
    cases h1 : S.testBit p
    · rfl
    · have : ly_df (ly_df S (m p)) (2 ^ p) = 0 := by
        apply (ly_z (ly_dfL (ly_dfL hS))).mpr
        intro q hq
        rw [ly_dfT _ _ _ hq, ly_dfT _ _ _ hq, ly_pwT]
        cases h2 : S.testBit q
        · rfl
        · by_cases e : p = q
          · simp [e]
          · rw [h p hp q hq h1 h2 e]; rfl
      rw [decide_eq_true this]; rfl
def ly_lo (S : Nat) : Nat := if S.testBit 0 then 0 else if S.testBit 1 then 1 else if S.testBit 2 then 2 else if S.testBit 3 then 3 else if S.testBit 4 then 4 else 5
theorem ly_loF : ∀ S, S < 64 → S ≠ 0 → ly_lo S < 6 ∧ S.testBit (ly_lo S) = true ∧ (nI S &&& (-nI S)) = nI (2 ^ ly_lo S) ∧ (nI S &&& (nI S - 1)) = nI (ly_df S (2 ^ ly_lo S)) := by decide +kernel
theorem ly_p2 : ∀ a, a < 6 → ∀ b, b < 6 → (nI (2 ^ a) = nI (2 ^ b) ↔ a = b) := by decide +kernel
theorem ly_cqE {m : Nat → Nat} {S : Nat} (hm : ly_Sy m) (hS : S < 64) (h0 : S ≠ 0) : ly_cq m S = true ↔ (ly_cq m (ly_df S (2 ^ ly_lo S)) = true ∧ ly_df (ly_df S (2 ^ ly_lo S)) (m (ly_lo S)) = 0) := by
  obtain ⟨hl, hb, _, _⟩ := ly_loF S hS h0
  have hR : ly_df S (2 ^ ly_lo S) < 64 := ly_dfL hS
  have hT : ∀ q, q < 6 → ((ly_df S (2 ^ ly_lo S)).testBit q = true ↔ S.testBit q = true ∧ ly_lo S ≠ q) := by
    intro q hq
    rw [ly_dfT _ _ _ hq, ly_pwT]
    simp
  rw [ly_cqI hS, ly_cqI hR, ly_z (ly_dfL hR)]
  constructor
  · intro h
    constructor
    · intro p hp q hq h1 h2 ne
      exact h p hp q hq ((hT p hp).mp h1).1 ((hT q hq).mp h2).1 ne
    · intro q hq
      rw [ly_dfT _ _ _ hq]
      cases z : (ly_df S (2 ^ ly_lo S)).testBit q
      · rfl
      · have y := (hT q hq).mp z
        rw [h _ hl q hq hb y.1 y.2]; rfl
  · rintro ⟨h, h2⟩ p hp q hq b1 b2 ne
    have key : ∀ q, q < 6 → S.testBit q = true → ly_lo S ≠ q → (m (ly_lo S)).testBit q = true := by
      intro q hq b y
      have := h2 q hq
      rw [ly_dfT _ _ _ hq, (hT q hq).mpr ⟨b, y⟩] at this
      simpa using this
    by_cases e : ly_lo S = p
    · subst e; exact key q hq b2 ne
    · by_cases e2 : ly_lo S = q
      · subst e2; rw [hm.1 p hp _ hl]; exact key p hp b1 e
      · exact h p hp q hq ((hT p hp).mpr ⟨b1, e⟩) ((hT q hq).mpr ⟨b2, e2⟩) ne
theorem ly_cmB (m : Nat → Nat) : ∀ j, ly_cm m j ≤ 6 := by
  intro j
  induction j with
  | zero => exact Nat.zero_le _
  | succ j ih =>
    show (if ly_cq m j = true ∧ ly_cm m j < ly_pc j then ly_pc j else ly_cm m j) ≤ 6
    split
    · exact ly_pcL _
    · exact ih
theorem lx_cq96 {post : Int32 → SX → Prop} {J : Int32 → Int32 → (Nat → Int32) → (Nat → Int32) → (Nat → Int32) → (Nat → Int32) → (Nat → Int32) → (Nat → Int32) → Prop} {na nc nw nh np nt : Nat → Int32} {m : Nat → Nat} {S : Nat} {z0 : Int32} (hS : S < 64) (hz : z0 = nI (ly_cq m S).toNat)
    (hJ : J (nI (ly_cm m (S + 1))) (nI (S + 1)) na nc (upd nw S (nI (ly_cq m S).toNat)) nh np nt) : wX_clique_96 post J (nI (ly_cm m S)) (nI S) z0 (nI S) na nc nw nh np nt := by
  unfold wX_clique_96
  have hb := ly_cmB m S
  have hc := ly_pcL S
  have es : ly_cm m (S + 1) = if ly_cq m S = true ∧ ly_cm m S < ly_pc S then ly_pc S else ly_cm m S := rfl
  rw [es] at hJ
  subst hz
  refine ⟨ly_in64 hS, nm_r (e' := upd nw S (nI (ly_cq m S).toNat)) (by rw [ly_cl hS]) (lx_size hS ⟨ly_in64 hS, ?_⟩)⟩
  rw [ly_cl hS, pk_us, ly_b1]
  refine br_c (fun h1 => ?_) (fun h1 => ?_)
  · refine pk_le (ly_pc S) (ly_cm m S) (fun z => ?_) (fun z => ?_) rfl rfl (by omega) (by omega)
    · rw [if_neg (by omega)] at hJ; exact nm_r (nI_1 S) hJ
    · rw [if_pos ⟨h1, z⟩] at hJ; exact nm_r (nI_1 S) hJ
  · rw [if_neg (fun z => h1 z.1)] at hJ; exact nm_r (nI_1 S) hJ
theorem lx_cq29 {post : Int32 → SX → Prop} {J : Int32 → Int32 → (Nat → Int32) → (Nat → Int32) → (Nat → Int32) → (Nat → Int32) → (Nat → Int32) → (Nat → Int32) → Prop} {na nc nw nh np nt : Nat → Int32} {m : Nat → Nat} {S : Nat} (N : ly_N na m) (hm : ly_Sy m) (hS : S < 64) (h0 : S ≠ 0)
    (hW : ∀ T, T < S → nw T = nI (ly_cq m T).toNat) (hJ : J (nI (ly_cm m (S + 1))) (nI (S + 1)) na nc (upd nw S (nI (ly_cq m S).toNat)) nh np nt) :
    ∃ n, wX_clique_29 post J (nI (ly_cm m S)) (nI S) (nI (ly_df S (2 ^ ly_lo S))) na nc nw nh np nt n 0 0 := by
  obtain ⟨hl, hb, e1, _⟩ := ly_loF S hS h0
  have hR : ly_df S (2 ^ ly_lo S) < 64 := ly_dfL hS
  have hlt := ly_dfLt S hS _ hl hb
  have hE := ly_cqE hm hS h0
  refine ly_lp (W := fun n i => wX_clique_29 post J (nI (ly_cm m S)) (nI S) (nI (ly_df S (2 ^ ly_lo S))) na nc nw nh np nt n (nI (if ly_lo S < i then ly_lo S else 0)) (nI i)) 6 0 (by decide) ?_ ?_
  · intro n
    rw [if_pos hl]
    refine br_t ly_66 ⟨ly_in64 hR, ?_⟩
    rw [ly_cl hR, hW _ hlt, ly_b1]
    have no : ly_cq m S = false → wX_clique_95 post J (nI (ly_cm m S)) (nI S) (nI S) na nc nw nh np nt := by
      intro h
      unfold wX_clique_95
      exact lx_cq96 hS (by rw [h]; rfl) hJ
    have nt' : ¬ ly_cq m S = true → ly_cq m S = false := fun z => by cases h : ly_cq m S; rfl; exact absurd h z
    refine br_c (fun h1 => ⟨ly_in6 hl, ?_⟩) (fun h1 => no (nt' (fun z => h1 (hE.mp z).1)))
    rw [ly_cl (i := ly_lo S) (by omega), (N _ hl).1, ly_ndf _ hR _ (N _ hl).2]
    have hdd : ly_df (ly_df S (2 ^ ly_lo S)) (m (ly_lo S)) < 64 := ly_dfL hR
    refine pk_eq (ly_df (ly_df S (2 ^ ly_lo S)) (m (ly_lo S))) 0 (fun z => ?_) (fun z => no (nt' (fun y => z (hE.mp y).2))) rfl rfl (by omega) (by omega)
    exact lx_cq96 hS (by rw [hE.mpr ⟨h1, z⟩]; rfl) hJ
  · intro n i _ hi ih
    refine br_f (ly_6 hi) ?_
    rw [e1, ly_shl i hi, ly_p2 _ hl _ hi]
    refine br_c (fun e => ?_) (fun ne => ?_)
    · rw [show (if ly_lo S < i + 1 then ly_lo S else 0) = i from by rw [if_pos (by omega), e]] at ih
      exact nm_r (nI_1 i) ih
    · have ei : (if ly_lo S < i + 1 then ly_lo S else 0) = (if ly_lo S < i then ly_lo S else 0) := by
        by_cases z : ly_lo S < i
        · rw [if_pos z, if_pos (by omega)]
        · rw [if_neg z, if_neg (by omega)]
      rw [ei] at ih
      exact nm_r (nI_1 i) ih
theorem lx_clique {post : Int32 → SX → Prop} {na nc nw nh np nt : Nat → Int32} {m : Nat → Nat} (N : ly_N na m) (hm : ly_Sy m) (hp : ∀ W : Nat → Int32, post (nI (ly_cm m 64)) (na, nc, W, nh, np, nt)) : wpX_clique post (na, nc, nw, nh, np, nt) := by
  have L : ∃ n, ∀ W : Nat → Int32, (∀ T, T < 1 → W T = nI (ly_cq m T).toNat) → wX_clique_11 post n (nI (ly_cm m 1)) (nI 1) na nc W nh np nt := by
    refine ly_lp (W := fun n S => ∀ W : Nat → Int32, (∀ T, T < S → W T = nI (ly_cq m T).toNat) → wX_clique_11 post n (nI (ly_cm m S)) (nI S) na nc W nh np nt) 64 1 (by decide) ?_ ?_
    · intro n W _
      exact br_t (nI_le (a := 64) (b := 64) (by decide) (by decide)) (hp W)
    · intro n S h1 hS ih W hW
      obtain ⟨hl, hb, e1, e2⟩ := ly_loF S hS (by omega)
      refine br_f (nI_ge (b := 64) hS (by decide)) (nm_r e2 (lx_cq29 N hm hS (by omega) hW (ih _ ?_)))
      intro T hT
      by_cases e : T = S
      · subst e; rw [pk_us]
      · rw [pk_un e]; exact hW T (by omega)
  obtain ⟨n, h⟩ := L
  have e1 : ly_cm m 1 = 0 := by
    show (if ly_cq m 0 = true ∧ ly_cm m 0 < ly_pc 0 then ly_pc 0 else ly_cm m 0) = 0
    rw [if_neg (fun z => by have := (ly_pc0 0 (by decide)).mpr rfl; omega)]; rfl
  rw [e1] at h
  refine nm_e ⟨n, h _ ?_⟩
  intro T hT
  have e : T = 0 := by omega
  subst e
  have e2 : ly_cq m 0 = true := (ly_cqI (by decide)).mpr (fun p _ q _ h => absurd h (by simp))
  rw [pk_us, e2]; rfl
theorem lz_bits {post : Int32 → Prop} {v : SY} {x : Nat} (hx : x < 64) (hp : post (nI (ly_pc x))) : wpY_bits post v (nI x) := by
  obtain ⟨fk, na, nl, nr, nn, ne, nc, nf⟩ := v
  exact ly_lp (W := fun n i => wY_bits_4 post (nI x) fk na nl nr nn ne nc nf n (nI (ly_s (ly_fb x) i)) (nI i)) 6 0 (by decide)
    (fun n => br_t ly_66 hp)
    (fun n i _ hi ih => br_f (ly_6 hi) (nm_r (e' := nI (ly_s (ly_fb x) (i + 1))) (by rw [ly_bit x hx i hi, nI_add]; rfl) (nm_r (nI_1 i) ih)))
theorem lz_isClique {post : Int32 → Prop} {fk : Int32} {na nl nr nn ne nc nf : Nat → Int32} {m : Nat → Nat} {S : Nat} (N : ly_N na m) (hS : S < 64) (hp : post (nI (ly_cq m S).toNat)) : wpY_isClique post (fk, na, nl, nr, nn, ne, nc, nf) (nI S) := by
  have L : ∃ n, ly_cqT m S 0 = true → wY_isClique_2 post (nI S) fk na nl nr nn ne nc nf n (nI 0) := by
    refine ly_lp (W := fun n i => ly_cqT m S i = true → wY_isClique_2 post (nI S) fk na nl nr nn ne nc nf n (nI i)) 6 0 (by decide) ?_ ?_
    · intro n h
      rw [show ly_cq m S = true from h] at hp
      exact br_t ly_66 hp
    · intro n i _ hi ih h
      have es : ly_cqT m S (i + 1) = (ly_cqT m S i && ly_cqP m S i) := rfl
      rw [es, h, Bool.true_and] at ih
      refine br_f (ly_6 hi) (ly_br1 hS hi (fun hb => ⟨ly_in6 hi, ?_⟩) (fun hb => nm_r (nI_1 i) (ih (by unfold ly_cqP; rw [hb]; rfl))))
      rw [ly_cl (i := i) (by omega), (N i hi).1, ly_ndf _ hS _ (N i hi).2, ly_shl i hi, ly_ndf _ (ly_dfL hS) _ (ly_pwL hi)]
      have hdd : ly_df (ly_df S (m i)) (2 ^ i) < 64 := ly_dfL (ly_dfL hS)
      refine pk_eq (ly_df (ly_df S (m i)) (2 ^ i)) 0 (fun z => nm_r (nI_1 i) (ih ?_)) (fun z => ?_) rfl rfl (by omega) (by omega)
      · unfold ly_cqP; rw [decide_eq_true z, Bool.or_true]
      · have e : ly_cq m S = false := by
          cases hc : ly_cq m S
          · rfl
          · have := (ly_cqTi 6).mp hc i hi
            unfold ly_cqP at this
            rw [hb, decide_eq_false z] at this
            cases this
        rw [e] at hp
        exact hp
  obtain ⟨n, h⟩ := L
  exact ⟨n, h rfl⟩
theorem lz_clique {post : Int32 → Prop} {fk : Int32} {na nl nr nn ne nc nf : Nat → Int32} {m : Nat → Nat} (N : ly_N na m) (hp : post (nI (ly_cm m 64))) : wpY_clique post (fk, na, nl, nr, nn, ne, nc, nf) := by
  refine ly_lp (W := fun n S => wY_clique_4 post fk na nl nr nn ne nc nf n (nI (ly_cm m S)) (nI S)) 64 0 (by decide) ?_ ?_
  · intro n
    exact br_t (nI_le (a := 64) (b := 64) (by decide) (by decide)) hp
  · intro n S _ hS ih
    have hb := ly_cmB m S
    have hc := ly_pcL S
    have es : ly_cm m (S + 1) = if ly_cq m S = true ∧ ly_cm m S < ly_pc S then ly_pc S else ly_cm m S := rfl
    rw [es] at ih
    refine br_f (nI_ge (b := 64) hS (by decide)) (lz_bits hS ?_)
    refine pk_le (ly_pc S) (ly_cm m S) (fun z => ?_) (fun z => ?_) rfl rfl (by omega) (by omega)
    · rw [if_neg (by omega)] at ih; exact nm_r (nI_1 S) ih
    · refine lz_isClique N hS ?_
      show (nI (ly_cq m S).toNat = 0 → _) ∧ (¬ nI (ly_cq m S).toNat = 0 → _)
      rw [ly_b0]
      refine br_c (fun h => ?_) (fun h => ?_)
      · rw [if_neg (fun y => by rw [h] at y; cases y.1)] at ih; exact nm_r (nI_1 S) ih
      · rw [if_pos ⟨by cases hc : ly_cq m S; exact absurd hc h; rfl, z⟩] at ih; exact nm_r (nI_1 S) ih
end
section
/-! the reference: order number n, and what it comes to -/
def ly_nt (S : Nat) : Nat → Nat → Nat → Nat
  | 0, _, _ => 0
  | d + 1, i, k => if S.testBit i = true then (if k = 0 then i else ly_nt S d (i + 1) (k - 1)) else ly_nt S d (i + 1) k
def ly_nth (S k : Nat) : Nat := ly_nt S 6 0 k
def ly_un : Nat → Nat
  | 0 => 720
  | i + 1 => ly_un i / (6 - i)
def ly_rp (n : Nat) : Nat → Nat × Nat
  | 0 => (n, 63)
  | i + 1 => ((ly_rp n i).1 % ly_un (i + 1), ly_df (ly_rp n i).2 (2 ^ ly_nth (ly_rp n i).2 ((ly_rp n i).1 / ly_un (i + 1))))
def ly_ro (n i : Nat) : Nat := ly_nth (ly_rp n i).2 ((ly_rp n i).1 / ly_un (i + 1))
theorem ly_ntL {S : Nat} : ∀ d i k, i + d = 6 → ly_nt S d i k < 6 := by
  intro d
  induction d with
  | zero => intro i k _; show 0 < 6; decide
  | succ d ih =>
    intro i k h
    show (if S.testBit i = true then (if k = 0 then i else ly_nt S d (i + 1) (k - 1)) else ly_nt S d (i + 1) k) < 6
    split
    · split
      · omega
      · exact ih _ _ (by omega)
    · exact ih _ _ (by omega)
theorem ly_roL (n i : Nat) : ly_ro n i < 6 := ly_ntL 6 0 _ rfl
theorem ly_unB : ∀ i, i < 7 → 0 < ly_un i ∧ ly_un i ≤ 720 := by decide
theorem ly_rp1 (n : Nat) : ∀ i, (ly_rp n i).1 ≤ n := by
  intro i
  induction i with
  | zero => exact Nat.le_refl _
  | succ i ih => exact Nat.le_trans (Nat.mod_le _ _) ih
theorem ly_rp2 (n : Nat) : ∀ i, (ly_rp n i).2 < 64 := by
  intro i
  induction i with
  | zero => show 63 < 64; decide
  | succ i ih => exact ly_dfL ih
theorem lz_nth {post : Int32 → Prop} {v : SY} {S k : Nat} (hS : S < 64) (hk : k < 2 ^ 31) (hp : post (nI (ly_nth S k))) : wpY_nth post v (nI S) (nI k) := by
  obtain ⟨fk, na, nl, nr, nn, ne, nc, nf⟩ := v
  have L : ∀ d i k, i + d = 6 → k < 2 ^ 31 → post (nI (ly_nt S d i k)) → wY_nth_5 post (nI S) fk na nl nr nn ne nc nf (d + 1) (nI k) (nI i) := by
    intro d
    induction d with
    | zero =>
      intro i k h _ hp
      have e : i = 6 := by omega
      subst e
      exact br_t ly_66 hp
    | succ d ih =>
      intro i k h hk hp
      have es : ly_nt S (d + 1) i k = if S.testBit i = true then (if k = 0 then i else ly_nt S d (i + 1) (k - 1)) else ly_nt S d (i + 1) k := rfl
      rw [es] at hp
      refine br_f (ly_6 (by omega)) (ly_br1 hS (by omega) (fun hb => ?_) (fun hb => ?_))
      · rw [if_pos hb] at hp
        refine pk_eq k 0 (fun z => ?_) (fun z => ?_) rfl rfl (by omega) (by omega)
        · rw [if_pos z] at hp; exact hp
        · rw [if_neg z] at hp
          obtain ⟨k', rfl⟩ : ∃ k', k = k' + 1 := ⟨k - 1, by omega⟩
          exact nm_r (pk_m1 k') (nm_r (nI_1 i) (ih (i + 1) k' (by omega) (by omega) hp))
      · rw [if_neg (by rw [hb]; decide)] at hp
        exact nm_r (nI_1 i) (ih (i + 1) k (by omega) hk hp)
  exact ⟨7, L 6 0 k rfl hk hp⟩
theorem lz_setOrder {post : SY → Prop} {fk : Int32} {na nl nr nn ne nc nf : Nat → Int32} {n : Nat} (hn : n < 2 ^ 31)
    (hp : ∀ nr : Nat → Int32, (∀ j, j < 6 → nr j = nI (ly_ro n j)) → post (fk, na, nl, nr, nn, ne, nc, nf)) : wpY_setOrder post (fk, na, nl, nr, nn, ne, nc, nf) (nI n) := by
  have L : ∃ g, ∀ nr : Nat → Int32, (∀ j, j < 0 → nr j = nI (ly_ro n j)) → wY_setOrder_13 post fk g (nI (ly_rp n 0).1) (nI (ly_un 0)) (nI (ly_rp n 0).2) (nI 0) na nl nr nn ne nc nf := by
    refine ly_lp (W := fun g i => ∀ nr : Nat → Int32, (∀ j, j < i → nr j = nI (ly_ro n j)) → wY_setOrder_13 post fk g (nI (ly_rp n i).1) (nI (ly_un i)) (nI (ly_rp n i).2) (nI i) na nl nr nn ne nc nf) 6 0 (by decide)
      (fun g nr h => br_t ly_66 (hp nr h)) ?_
    intro g i _ hi ih nr h
    have h1 := ly_rp1 n i
    have h2 := ly_rp2 n i
    have hu := ly_unB i (by omega)
    have hu' := ly_unB (i + 1) (by omega)
    have hro := ly_roL n i
    have e6 : (6 : Int32) - nI i = nI (6 - i) := pk_sub (a := 6) (by omega)
    have eu : nI (ly_un i) / nI (6 - i) = nI (ly_un (i + 1)) := pk_div (by omega) (by omega) (by omega)
    have hq : (ly_rp n i).1 / ly_un (i + 1) ≤ (ly_rp n i).1 := Nat.div_le_self _ _
    refine br_f (ly_6 hi) ?_
    rw [e6]
    refine ⟨nI_ne0 (by omega) (by omega), nm_r eu ⟨nI_ne0 hu'.1 (by omega), ?_⟩⟩
    rw [pk_div (a := (ly_rp n i).1) (d := ly_un (i + 1)) (by omega) hu'.1 (by omega)]
    refine lz_nth h2 (by omega) ⟨ly_in6 hi, nm_r (e' := upd nr i (nI (ly_ro n i))) (by rw [ly_cl (i := i) (by omega)]; rfl) ⟨nI_ne0 hu'.1 (by omega), ?_⟩⟩
    have er : nI (ly_rp n i).1 - nI ((ly_rp n i).1 / ly_un (i + 1)) * nI (ly_un (i + 1)) = nI ((ly_rp n i).1 % ly_un (i + 1)) := by
      rw [← pk_div (a := (ly_rp n i).1) (d := ly_un (i + 1)) (by omega) hu'.1 (by omega)]
      exact pk_rem (by omega) hu'.1 (by omega)
    refine nm_r er ⟨ly_in6 hi, nm_r (e' := nI (ly_df (ly_rp n i).2 (2 ^ ly_ro n i))) ?_ (nm_r (nI_1 i) (ih _ ?_))⟩
    · rw [ly_cl (i := i) (by omega), pk_us, ly_shl _ hro, ly_ndf _ h2 _ (ly_pwL hro)]
    · intro j hj
      by_cases z : j = i
      · subst z; rw [pk_us]
      · rw [pk_un z]; exact h j (by omega)
  obtain ⟨g, h⟩ := L
  exact ⟨g, h nr (fun j hj => absurd hj (by omega))⟩
/-! lay: four numbers of an order r -/
def ly_lc (m r : Nat → Nat) (i k : Nat) : Nat := ly_pc (ly_df (m (r k)) (ly_pm r (i + 1)))
def ly_lq (m r : Nat → Nat) (i k : Nat) : Nat := if ly_lc m r i k ≤ 0 then 0 else 1
def ly_l3 (m r : Nat → Nat) (i k : Nat) : Nat := if (m (r k)).testBit (r i) = true then i - k else 0
def ly_i2 (m r : Nat → Nat) (i v : Nat) : Nat → Nat
  | 0 => v
  | k + 1 => if (m (r k)).testBit (r i) = true then (if i - k ≤ ly_i2 m r i v k then ly_i2 m r i v k else i - k) else ly_i2 m r i v k
def ly_mx (f : Nat → Nat) : Nat → Nat
  | 0 => 0
  | i + 1 => if f i ≤ ly_mx f i then ly_mx f i else f i
def ly_c0 (m r : Nat → Nat) (i : Nat) : Nat := ly_s (ly_lc m r i) (i + 1)
def ly_c1 (m r : Nat → Nat) (i : Nat) : Nat := ly_s (ly_lq m r i) (i + 1)
def ly_n2 (m r : Nat → Nat) : Nat → Nat
  | 0 => 0
  | i + 1 => ly_i2 m r i (ly_n2 m r i) (i + 1)
def ly_c3 (m r : Nat → Nat) (i : Nat) : Nat := ly_s (ly_l3 m r i) (i + 1)
theorem ly_mxB {f : Nat → Nat} {b : Nat} : ∀ n, (∀ i, i < n → f i ≤ b) → ly_mx f n ≤ b := by
  intro n
  induction n with
  | zero => intro _; exact Nat.zero_le _
  | succ n ih =>
    intro h
    show (if f n ≤ ly_mx f n then ly_mx f n else f n) ≤ b
    split
    · exact ih (fun i hi => h i (by omega))
    · exact h n (by omega)
theorem ly_sLn {f : Nat → Nat} {b : Nat} : ∀ n, (∀ i, i < n → f i ≤ b) → ly_s f n ≤ n * b := by
  intro n
  induction n with
  | zero => intro _; exact Nat.zero_le _
  | succ n ih => intro h; have := h n (by omega); have := ih (fun i hi => h i (by omega)); show ly_s f n + f n ≤ _; rw [Nat.succ_mul]; omega
theorem ly_lcB (m r : Nat → Nat) (i k : Nat) : ly_s (ly_lc m r i) k ≤ k * 6 := ly_sL (fun _ => ly_pcL _) k
theorem ly_lqB (m r : Nat → Nat) (i k : Nat) : ly_s (ly_lq m r i) k ≤ k * 1 := ly_sL (fun j => by unfold ly_lq; split <;> omega) k
theorem ly_l3B (m r : Nat → Nat) (i k : Nat) : ly_s (ly_l3 m r i) k ≤ k * i := ly_sL (fun j => by unfold ly_l3; split <;> omega) k
theorem ly_c0B (m r : Nat → Nat) (i : Nat) (hi : i < 6) : ly_c0 m r i ≤ 36 := by have := ly_lcB m r i (i + 1); unfold ly_c0; omega
theorem ly_c1B (m r : Nat → Nat) (i : Nat) (hi : i < 6) : ly_c1 m r i ≤ 36 := by have := ly_lqB m r i (i + 1); unfold ly_c1; omega
theorem ly_c3B (m r : Nat → Nat) (i : Nat) (hi : i < 6) : ly_c3 m r i ≤ 36 := by
  have h := ly_l3B m r i (i + 1)
  have : (i + 1) * i ≤ 6 * 6 := Nat.mul_le_mul (by omega) (by omega)
  unfold ly_c3; omega
theorem ly_i2B (m r : Nat → Nat) (i v : Nat) (hi : i < 6) (hv : v ≤ 5) : ∀ k, ly_i2 m r i v k ≤ 5 := by
  intro k
  induction k with
  | zero => exact hv
  | succ k ih =>
    show (if (m (r k)).testBit (r i) = true then (if i - k ≤ ly_i2 m r i v k then ly_i2 m r i v k else i - k) else ly_i2 m r i v k) ≤ 5
    split
    · split
      · exact ih
      · omega
    · exact ih
theorem ly_n2B (m r : Nat → Nat) : ∀ i, i ≤ 6 → ly_n2 m r i ≤ 5 := by
  intro i
  induction i with
  | zero => intro _; exact Nat.zero_le _
  | succ i ih => intro h; exact ly_i2B m r i _ (by omega) (ih (by omega)) _
theorem ly_s3B (m r : Nat → Nat) : ∀ i, i ≤ 6 → ly_s (ly_c3 m r) i ≤ i * 36 := fun i h => ly_sLn i (fun j hj => ly_c3B m r j (by omega))
section
variable {post : SY → Prop} {J2 : Int32 → Int32 → (Nat → Int32) → (Nat → Int32) → (Nat → Int32) → (Nat → Int32) → (Nat → Int32) → (Nat → Int32) → (Nat → Int32) → Prop} {J3 : Int32 → Int32 → Int32 → (Nat → Int32) → (Nat → Int32) → (Nat → Int32) → (Nat → Int32) → (Nat → Int32) → (Nat → Int32) → (Nat → Int32) → Prop} {fk : Int32} {na nl nr ne nc nf : Nat → Int32} {m r : Nat → Nat}
/-- the places of numbers that stand -/
def ly_NN (nn : Nat → Int32) (a0 a1 a2 a3 : Nat) (b4 b5 : Int32) : Prop := nn 0 = nI a0 ∧ nn 1 = nI a1 ∧ nn 2 = nI a2 ∧ nn 3 = nI a3 ∧ nn 4 = b4 ∧ nn 5 = b5
theorem lz_166 {nn : Nat → Int32} {x1 x3 x4 : Int32} {i k a0 a1 a2 a3 : Nat} {b4 b5 : Int32} {b : Bool} {z : Int32} {w : Nat} (hi : i < 6) (hk : k ≤ i) (ha : a3 ≤ 1000) (h : ly_NN nn a0 a1 a2 a3 b4 b5) (hz : z = nI w)
    (hJ : ∀ nn' : Nat → Int32, ly_NN nn' a0 a1 w (a3 + if b = true then i - k else 0) b4 b5 → J3 x3 x4 (nI (k + 1)) na nl nr nn' ne nc nf) :
    wY_lay_166 post J2 J3 x1 (nI i) x3 x4 (nI k) (nI b.toNat) z 2 fk na nl nr nn ne nc nf := by
  obtain ⟨h0, h1, h2, h3, h4, h5⟩ := h
  unfold wY_lay_166
  refine ⟨ly_in6 (i := 2) (by decide), nm_e ?_⟩
  rw [show (2 : Int32).toNatClampNeg = 2 from rfl, ly_b0]
  refine br_c (fun hb => nm_e (nm_r (nI_1 k) (hJ _ ?_))) (fun hb => nm_e (nm_r (nI_1 k) (hJ _ ?_)))
  · rw [if_neg (by rw [hb]; decide), Nat.add_zero]
    refine ⟨?_, ?_, ?_, ?_, ?_, ?_⟩
    · rw [pk_un (by decide), pk_un (by decide)]; exact h0
    · rw [pk_un (by decide), pk_un (by decide)]; exact h1
    · rw [pk_un (by decide), pk_us]; exact hz
    · rw [pk_us, pk_un (by decide)]; exact h3
    · rw [pk_un (by decide), pk_un (by decide)]; exact h4
    · rw [pk_un (by decide), pk_un (by decide)]; exact h5
  · have hb' : b = true := by cases b; exact absurd rfl hb; rfl
    rw [if_pos hb']
    refine ⟨?_, ?_, ?_, ?_, ?_, ?_⟩
    · rw [pk_un (by decide), pk_un (by decide)]; exact h0
    · rw [pk_un (by decide), pk_un (by decide)]; exact h1
    · rw [pk_un (by decide), pk_us]; exact hz
    · rw [pk_us, pk_un (by decide), h3, nI_add, pk_sub (by omega)]; exact congrArg nI (by omega)
    · rw [pk_un (by decide), pk_un (by decide)]; exact h4
    · rw [pk_un (by decide), pk_un (by decide)]; exact h5
theorem lz_128 {nn : Nat → Int32} {x1 x3 x4 : Int32} {i k a0 a1 a2 a3 : Nat} {b4 b5 : Int32} {b : Bool} (hi : i < 6) (hk : k ≤ i) (ha2 : a2 ≤ 5) (ha : a3 ≤ 1000) (h : ly_NN nn a0 a1 a2 a3 b4 b5)
    (hJ : ∀ nn' : Nat → Int32, ly_NN nn' a0 a1 (if b = true then (if i - k ≤ a2 then a2 else i - k) else a2) (a3 + if b = true then i - k else 0) b4 b5 → J3 x3 x4 (nI (k + 1)) na nl nr nn' ne nc nf) :
    wY_lay_128 post J2 J3 x1 (nI i) x3 x4 (nI k) (nI b.toNat) fk na nl nr nn ne nc nf := by
  have h2 : nn 2 = nI a2 := h.2.2.1
  unfold wY_lay_128
  rw [ly_b0]
  refine br_c (fun hb => ?_) (fun hb => ?_)
  · unfold wY_lay_160
    refine lz_166 hi hk ha h h2 (fun nn' g => hJ nn' ?_)
    rw [if_neg (by rw [hb]; decide)]
    exact g
  · have hb' : b = true := by cases b; exact absurd rfl hb; rfl
    rw [if_pos hb'] at hJ
    rw [pk_sub hk, h2]
    refine pk_le (i - k) a2 (fun z => ?_) (fun z => ?_) rfl rfl (by omega) (by omega)
    · rw [if_pos z] at hJ
      unfold wY_lay_160
      exact lz_166 hi hk ha h h2 hJ
    · rw [if_neg (by omega)] at hJ
      exact lz_166 hi hk ha h rfl hJ
theorem lz_96 {nn : Nat → Int32} {x1 x3 x4 : Int32} {i k a0 a1 a2 a3 : Nat} {b4 b5 : Int32} (N : ly_N na m) (hr : ∀ j, j < 6 → nr j = nI (r j) ∧ r j < 6) (hi : i < 6) (hk : k ≤ i) (ha2 : a2 ≤ 5) (ha : a3 ≤ 1000) (h : ly_NN nn a0 a1 a2 a3 b4 b5)
    (hJ : ∀ nn' : Nat → Int32, ly_NN nn' a0 a1 (if (m (r k)).testBit (r i) = true then (if i - k ≤ a2 then a2 else i - k) else a2) (a3 + if (m (r k)).testBit (r i) = true then i - k else 0) b4 b5 → J3 x3 x4 (nI (k + 1)) na nl nr nn' ne nc nf) :
    wY_lay_96 post J2 J3 x1 (nI i) x3 (nI k) x4 fk na nl nr nn ne nc nf := by
  have hk6 : k < 6 := by omega
  have hrk := hr k hk6
  have hri := hr i hi
  unfold wY_lay_96
  refine ⟨ly_in6 hk6, ?_⟩
  rw [ly_cl (i := k) (by omega), ly_cl (i := i) (by omega), hrk.1, hri.1]
  refine ⟨ly_in6 hrk.2, ly_in6 hi, ?_⟩
  rw [ly_cl (i := r k) (by omega), (N _ hrk.2).1]
  refine ly_br1 (N _ hrk.2).2 hri.2 (fun hb => ?_) (fun hb => ?_)
  · rw [hb] at hJ
    exact lz_128 (b := true) hi hk ha2 ha h hJ
  · rw [hb] at hJ
    exact lz_128 (b := false) hi hk ha2 ha h hJ
theorem lz_229 {nn : Nat → Int32} {x1 : Int32} {i c1 a0 a1 a2 a3 w : Nat} {b4 b5 : Int32} {z : Int32} (ha1 : a1 ≤ 1000) (hc1 : c1 ≤ 1000) (h : ly_NN nn a0 a1 a2 a3 b4 b5) (hz : z = nI w)
    (hJ : ∀ nn' : Nat → Int32, ly_NN nn' w (if c1 ≤ a1 then a1 else c1) a2 a3 b4 b5 → J2 x1 (nI (i + 1)) na nl nr nn' ne nc nf) :
    wY_lay_229 post J2 x1 (nI i) (nI c1) z 0 fk na nl nr nn ne nc nf := by
  obtain ⟨h0, h1, h2, h3, h4, h5⟩ := h
  unfold wY_lay_229
  refine ⟨ly_in6 (i := 0) (by decide), nm_e ?_⟩
  rw [show (0 : Int32).toNatClampNeg = 0 from rfl, pk_un (by decide), h1]
  refine pk_le c1 a1 (fun y => nm_e (nm_r (nI_1 i) (hJ _ ?_))) (fun y => nm_e (nm_r (nI_1 i) (hJ _ ?_))) rfl rfl (by omega) (by omega)
  · rw [if_pos y]
    refine ⟨?_, ?_, ?_, ?_, ?_, ?_⟩
    · rw [pk_un (by decide), pk_us]; exact hz
    · rw [pk_us]
    · rw [pk_un (by decide), pk_un (by decide)]; exact h2
    · rw [pk_un (by decide), pk_un (by decide)]; exact h3
    · rw [pk_un (by decide), pk_un (by decide)]; exact h4
    · rw [pk_un (by decide), pk_un (by decide)]; exact h5
  · rw [if_neg (by omega)]
    refine ⟨?_, ?_, ?_, ?_, ?_, ?_⟩
    · rw [pk_un (by decide), pk_us]; exact hz
    · rw [pk_us]
    · rw [pk_un (by decide), pk_un (by decide)]; exact h2
    · rw [pk_un (by decide), pk_un (by decide)]; exact h3
    · rw [pk_un (by decide), pk_un (by decide)]; exact h4
    · rw [pk_un (by decide), pk_un (by decide)]; exact h5
theorem lz_49 {nn : Nat → Int32} {i a0 a1 a2 a3 : Nat} {b4 b5 : Int32} (N : ly_N na m) (hr : ∀ j, j < 6 → nr j = nI (r j) ∧ r j < 6) (hi : i < 6) (ha0 : a0 ≤ 36) (ha1 : a1 ≤ 36) (ha2 : a2 ≤ 5) (ha3 : a3 ≤ 216) (h : ly_NN nn a0 a1 a2 a3 b4 b5)
    (hJ : ∀ nn' : Nat → Int32, ly_NN nn' (if ly_c0 m r i ≤ a0 then a0 else ly_c0 m r i) (if ly_c1 m r i ≤ a1 then a1 else ly_c1 m r i) (ly_i2 m r i a2 (i + 1)) (a3 + ly_c3 m r i) b4 b5 → J2 (nI (ly_pm r (i + 1))) (nI (i + 1)) na nl nr nn' ne nc nf) :
    ∃ g, wY_lay_49 post J2 (nI (ly_pm r (i + 1))) (nI i) fk g 0 0 0 na nl nr nn ne nc nf := by
  have hpm : ly_pm r (i + 1) < 64 := ly_pmL (i + 1) (fun j hj => (hr j (by omega)).2)
  have L : ∃ g, ∀ nn : Nat → Int32, ly_NN nn a0 a1 (ly_i2 m r i a2 0) (a3 + ly_s (ly_l3 m r i) 0) b4 b5 → wY_lay_49 post J2 (nI (ly_pm r (i + 1))) (nI i) fk g (nI (ly_s (ly_lc m r i) 0)) (nI (ly_s (ly_lq m r i) 0)) (nI 0) na nl nr nn ne nc nf := by
    refine ly_lp (W := fun g k => ∀ nn : Nat → Int32, ly_NN nn a0 a1 (ly_i2 m r i a2 k) (a3 + ly_s (ly_l3 m r i) k) b4 b5 → wY_lay_49 post J2 (nI (ly_pm r (i + 1))) (nI i) fk g (nI (ly_s (ly_lc m r i) k)) (nI (ly_s (ly_lq m r i) k)) (nI k) na nl nr nn ne nc nf) (i + 1) 0 (by omega) ?_ ?_
    · intro g nn h
      have hc0 := ly_c0B m r i hi
      have hc1 := ly_c1B m r i hi
      refine br_t (nI_lt (by omega) (by omega)) ?_
      rw [h.1]
      refine pk_le (ly_c0 m r i) a0 (fun z => ?_) (fun z => ?_) rfl rfl (by omega) (by omega)
      · rw [if_pos z] at hJ
        exact lz_229 (by omega) (show ly_s (ly_lq m r i) (i + 1) ≤ 1000 from Nat.le_trans hc1 (by decide)) h rfl hJ
      · rw [if_neg (by omega)] at hJ
        exact lz_229 (by omega) (show ly_s (ly_lq m r i) (i + 1) ≤ 1000 from Nat.le_trans hc1 (by decide)) h rfl hJ
    · intro g k _ hk ih nn h
      have hk6 : k < 6 := by omega
      have hrk := hr k hk6
      have hi2 := ly_i2B m r i a2 hi ha2 k
      have hl3 := ly_l3B m r i k
      have hl3' : k * i ≤ 6 * 6 := Nat.mul_le_mul (by omega) (by omega)
      have hlc := ly_pcL (ly_df (m (r k)) (ly_pm r (i + 1)))
      refine br_f (nI_nlt (by omega) (by omega)) ⟨ly_in6 hk6, ?_⟩
      rw [ly_cl (i := k) (by omega), hrk.1]
      refine ⟨ly_in6 hrk.2, ?_⟩
      rw [ly_cl (i := r k) (by omega), (N _ hrk.2).1, ly_ndf _ (N _ hrk.2).2 _ hpm]
      refine lz_bits (ly_dfL (N _ hrk.2).2) (nm_r (nI_add _ _) ?_)
      have e3 : a3 + ly_s (ly_l3 m r i) (k + 1) = a3 + ly_s (ly_l3 m r i) k + (if (m (r k)).testBit (r i) = true then i - k else 0) := (Nat.add_assoc _ _ _).symm
      refine pk_le (ly_pc (ly_df (m (r k)) (ly_pm r (i + 1)))) 0 (fun z => ?_) (fun z => ?_) rfl rfl (by omega) (by omega)
      · refine lz_96 N hr hi (by omega) hi2 (by omega) h (fun nn' g' => ?_)
        rw [← e3] at g'
        have := ih nn' g'
        have eq : ly_s (ly_lq m r i) (k + 1) = ly_s (ly_lq m r i) k := by
          show ly_s (ly_lq m r i) k + ly_lq m r i k = _
          rw [show ly_lq m r i k = 0 from if_pos z, Nat.add_zero]
        rw [eq] at this
        exact this
      · rw [nI_1]
        refine lz_96 N hr hi (by omega) hi2 (by omega) h (fun nn' g' => ?_)
        rw [← e3] at g'
        have := ih nn' g'
        have eq : ly_s (ly_lq m r i) (k + 1) = ly_s (ly_lq m r i) k + 1 := by
          show ly_s (ly_lq m r i) k + ly_lq m r i k = _
          rw [show ly_lq m r i k = 1 from if_neg (by show ¬ ly_lc m r i k ≤ 0; unfold ly_lc; omega)]
        rw [eq] at this
        exact this
  obtain ⟨g, hg⟩ := L
  exact ⟨g, hg nn h⟩
theorem lz_24 {nn : Nat → Int32} {b4 b5 : Int32} (N : ly_N na m) (hr : ∀ j, j < 6 → nr j = nI (r j) ∧ r j < 6) (h : ly_NN nn 0 0 0 0 b4 b5)
    (hp : ∀ nn' : Nat → Int32, ly_NN nn' (ly_mx (ly_c0 m r) 6) (ly_mx (ly_c1 m r) 6) (ly_n2 m r 6) (ly_s (ly_c3 m r) 6) b4 b5 → post (fk, na, nl, nr, nn', ne, nc, nf)) :
    ∃ g, wY_lay_24 post fk g 0 0 na nl nr nn ne nc nf := by
  have L : ∃ g, ∀ nn : Nat → Int32, ly_NN nn (ly_mx (ly_c0 m r) 0) (ly_mx (ly_c1 m r) 0) (ly_n2 m r 0) (ly_s (ly_c3 m r) 0) b4 b5 → wY_lay_24 post fk g (nI (ly_pm r 0)) (nI 0) na nl nr nn ne nc nf := by
    refine ly_lp (W := fun g i => ∀ nn : Nat → Int32, ly_NN nn (ly_mx (ly_c0 m r) i) (ly_mx (ly_c1 m r) i) (ly_n2 m r i) (ly_s (ly_c3 m r) i) b4 b5 → wY_lay_24 post fk g (nI (ly_pm r i)) (nI i) na nl nr nn ne nc nf) 6 0 (by decide)
      (fun g nn h => br_t ly_66 (hp nn h)) ?_
    intro g i _ hi ih nn h
    have hri := hr i hi
    have s3 := ly_s3B m r i (by omega)
    refine br_f (ly_6 hi) ⟨ly_in6 hi, nm_r (e' := nI (ly_pm r (i + 1))) ?_ ?_⟩
    · rw [ly_cl (i := i) (by omega), hri.1, ly_shl _ hri.2, ly_or]; rfl
    · exact lz_49 N hr hi (ly_mxB i (fun j hj => ly_c0B m r j (by omega))) (ly_mxB i (fun j hj => ly_c1B m r j (by omega))) (ly_n2B m r i (by omega)) (by omega) h ih
  obtain ⟨g, hg⟩ := L
  exact ⟨g, hg nn h⟩
theorem lz_lay {nn : Nat → Int32} (N : ly_N na m) (hr : ∀ j, j < 6 → nr j = nI (r j) ∧ r j < 6)
    (hp : ∀ nn' : Nat → Int32, ly_NN nn' (ly_mx (ly_c0 m r) 6) (ly_mx (ly_c1 m r) 6) (ly_n2 m r 6) (ly_s (ly_c3 m r) 6) (nn 4) (nn 5) → post (fk, na, nl, nr, nn', ne, nc, nf)) :
    wpY_lay post (fk, na, nl, nr, nn, ne, nc, nf) := by
  have L : ∃ g, ∀ mm : Nat → Int32, ((∀ j, j < 0 → mm j = 0) ∧ mm 4 = nn 4 ∧ mm 5 = nn 5) → wY_lay_2 post fk g (nI 0) na nl nr mm ne nc nf := by
    refine ly_lp (W := fun g i => ∀ mm : Nat → Int32, ((∀ j, j < i → mm j = 0) ∧ mm 4 = nn 4 ∧ mm 5 = nn 5) → wY_lay_2 post fk g (nI i) na nl nr mm ne nc nf) 4 0 (by decide) ?_ ?_
    · intro g mm h
      refine br_t (nI_le (a := 4) (b := 4) (by decide) (by decide)) (lz_24 N hr ?_ hp)
      exact ⟨h.1 0 (by decide), h.1 1 (by decide), h.1 2 (by decide), h.1 3 (by decide), h.2.1, h.2.2⟩
    · intro g i _ hi ih mm h
      refine br_f (nI_ge (b := 4) hi (by decide)) ⟨ly_in6 (by omega), nm_r (e' := upd mm i 0) (by rw [ly_cl (i := i) (by omega)]) (nm_r (nI_1 i) (ih _ ?_))⟩
      refine ⟨fun j hj => ?_, by rw [pk_un (by omega)]; exact h.2.1, by rw [pk_un (by omega)]; exact h.2.2⟩
      by_cases z : j = i
      · subst z; rw [pk_us]
      · rw [pk_un z]; exact h.1 j (by omega)
  obtain ⟨g, hg⟩ := L
  exact ⟨g, hg nn ⟨fun j hj => absurd hj (by omega), rfl, rfl⟩⟩
end
end
section
/-! the reference takes the points out one by one -/
def ly_jm (L : Nat → Nat) (x p : Nat) : Nat := ly_df (ly_df x (L p)) (2 ^ p)
def ly_fj (L : Nat → Nat) (x p : Nat) : Nat := if x.testBit p = true then ly_pc (ly_jm L x p) else 0
def ly_jl (L : Nat → Nat) (x p : Nat) : Nat := if x.testBit p = true then L p ||| ly_jm L x p else L p
def ly_lf (m r : Nat → Nat) : Nat → Nat → Nat
  | 0 => m
  | i + 1 => fun p => ly_df (ly_jl (ly_lf m r i) (ly_lf m r i (r i)) p) (2 ^ r i)
def ly_c4 (m r : Nat → Nat) (i : Nat) : Nat := ly_pc (ly_lf m r i (r i))
def ly_c5 (m r : Nat → Nat) (i : Nat) : Nat := ly_s (ly_fj (ly_lf m r i) (ly_lf m r i (r i))) 6 / 2
theorem ly_fjB (L : Nat → Nat) (x i : Nat) : ly_s (ly_fj L x) i ≤ i * 6 := ly_sL (fun j => by unfold ly_fj; split; exact ly_pcL _; omega) i
theorem ly_c4B (m r : Nat → Nat) (i : Nat) : ly_c4 m r i ≤ 36 := by have := ly_pcL (ly_lf m r i (r i)); unfold ly_c4; omega
theorem ly_c5B (m r : Nat → Nat) (i : Nat) : ly_c5 m r i ≤ 36 := by have := ly_fjB (ly_lf m r i) (ly_lf m r i (r i)) 6; unfold ly_c5; omega
theorem ly_jlL {L : Nat → Nat} {x p : Nat} (hx : x < 64) (hL : L p < 64) : ly_jl L x p < 64 := by
  unfold ly_jl; split
  · exact ly_orL hL (ly_dfL (ly_dfL hx))
  · exact hL
theorem ly_lfL {m r : Nat → Nat} (hm : ∀ p, p < 6 → m p < 64) (hr : ∀ j, j < 6 → r j < 6) : ∀ i, i ≤ 6 → ∀ p, p < 6 → ly_lf m r i p < 64 := by
  intro i
  induction i with
  | zero => intro _ p hp; exact hm p hp
  | succ i ih => intro h p hp; exact ly_dfL (ly_jlL (ih (by omega) _ (hr i (by omega))) (ih (by omega) p hp))
section
variable {fk : Int32} {na nr ne nc nf : Nat → Int32} {m r : Nat → Nat}
theorem lz_join {post : Int32 → SY → Prop} {nl nn : Nat → Int32} {L : Nat → Nat} {x : Nat} (hx : x < 64) (hL : ∀ p, p < 6 → nl p = nI (L p) ∧ L p < 64)
    (hp : ∀ nl' : Nat → Int32, (∀ p, p < 6 → nl' p = nI (ly_jl L x p)) → post (nI (ly_s (ly_fj L x) 6 / 2)) (fk, na, nl', nr, nn, ne, nc, nf)) : wpY_joinNeighbours post (fk, na, nl, nr, nn, ne, nc, nf) (nI x) := by
  have K : ∃ g, ∀ nl : Nat → Int32, (∀ p, p < 6 → nl p = nI (if p < 0 then ly_jl L x p else L p)) → wY_joinNeighbours_4 post (nI x) fk g (nI (ly_s (ly_fj L x) 0)) (nI 0) na nl nr nn ne nc nf := by
    refine ly_lp (W := fun g i => ∀ nl : Nat → Int32, (∀ p, p < 6 → nl p = nI (if p < i then ly_jl L x p else L p)) → wY_joinNeighbours_4 post (nI x) fk g (nI (ly_s (ly_fj L x) i)) (nI i) na nl nr nn ne nc nf) 6 0 (by decide) ?_ ?_
    · intro g nl h
      have hb := ly_fjB L x 6
      have e : nI (ly_s (ly_fj L x) 6) / 2 = nI (ly_s (ly_fj L x) 6 / 2) := pk_div (d := 2) (by omega) (by decide) (by decide)
      refine br_t ly_66 ⟨by decide, ?_⟩
      rw [e]
      refine hp nl (fun p hp6 => ?_)
      rw [h p hp6, if_pos hp6]
    · intro g i _ hi ih nl h
      have es : ly_s (ly_fj L x) (i + 1) = ly_s (ly_fj L x) i + ly_fj L x i := rfl
      rw [es] at ih
      have hli : nl i = nI (L i) := by rw [h i hi, if_neg (by omega)]
      have hLi := (hL i hi).2
      refine br_f (ly_6 hi) (ly_br1 hx hi (fun hb => ⟨ly_in6 hi, ?_⟩) (fun hb => ?_))
      · rw [ly_cl (i := i) (by omega), hli]
        refine nm_r (e' := nI (ly_jm L x i)) (by rw [ly_ndf _ hx _ hLi, ly_shl i hi, ly_ndf _ (ly_dfL hx) _ (ly_pwL hi)]; rfl) ?_
        refine lz_bits (ly_dfL (ly_dfL hx)) (nm_r (e' := nI (ly_s (ly_fj L x) i + ly_fj L x i)) (by rw [nI_add, show ly_fj L x i = ly_pc (ly_jm L x i) from if_pos hb]) ⟨ly_in6 hi, ly_in6 hi, ?_⟩)
        refine nm_r (e' := upd nl i (nI (ly_jl L x i))) (by rw [ly_or, show ly_jl L x i = L i ||| ly_jm L x i from if_pos hb]) (nm_r (nI_1 i) (ih _ ?_))
        intro p hp6
        by_cases z : p = i
        · subst z; rw [pk_us, if_pos (by omega)]
        · rw [pk_un z, h p hp6]
          by_cases y : p < i
          · rw [if_pos y, if_pos (by omega)]
          · rw [if_neg y, if_neg (by omega)]
      · rw [show ly_fj L x i = 0 from if_neg (by rw [hb]; decide), Nat.add_zero] at ih
        refine nm_r (nI_1 i) (ih _ ?_)
        intro p hp6
        rw [h p hp6]
        by_cases y : p < i
        · rw [if_pos y, if_pos (by omega)]
        · by_cases z : p = i
          · subst z
            rw [if_neg y, if_pos (by omega), show ly_jl L x p = L p from if_neg (by rw [hb]; decide)]
          · rw [if_neg y, if_neg (by omega)]
  obtain ⟨g, hg⟩ := K
  exact ⟨g, hg nl (fun p hp6 => by rw [if_neg (by omega)]; exact (hL p hp6).1)⟩
theorem lz_113 {post : SY → Prop} {J : Int32 → Int32 → (Nat → Int32) → (Nat → Int32) → (Nat → Int32) → (Nat → Int32) → (Nat → Int32) → (Nat → Int32) → (Nat → Int32) → Prop} {nl nn : Nat → Int32} {L : Nat → Nat} {i : Nat} (hi : i < 6) (hr : nr i = nI (r i) ∧ r i < 6) (hL : ∀ p, p < 6 → nl p = nI (L p) ∧ L p < 64)
    (hJ : ∀ nl' : Nat → Int32, (∀ p, p < 6 → nl' p = nI (ly_df (L p) (2 ^ r i))) → J (nI (i + 1)) fk na nl' nr nn ne nc nf) : ∃ g, wY_takeApart_113 post J (nI i) fk g 0 na nl nr nn ne nc nf := by
  have K : ∃ g, ∀ nl : Nat → Int32, (∀ p, p < 6 → nl p = nI (if p < 0 then ly_df (L p) (2 ^ r i) else L p)) → wY_takeApart_113 post J (nI i) fk g (nI 0) na nl nr nn ne nc nf := by
    refine ly_lp (W := fun g q => ∀ nl : Nat → Int32, (∀ p, p < 6 → nl p = nI (if p < q then ly_df (L p) (2 ^ r i) else L p)) → wY_takeApart_113 post J (nI i) fk g (nI q) na nl nr nn ne nc nf) 6 0 (by decide) ?_ ?_
    · intro g nl h
      refine br_t ly_66 (nm_r (nI_1 i) (hJ nl (fun p hp6 => ?_)))
      rw [h p hp6, if_pos hp6]
    · intro g q _ hq ih nl h
      have hlq : nl q = nI (L q) := by rw [h q hq, if_neg (by omega)]
      refine br_f (ly_6 hq) ⟨ly_in6 hq, ly_in6 hi, ly_in6 hq, nm_r (e' := upd nl q (nI (ly_df (L q) (2 ^ r i)))) ?_ (nm_r (nI_1 q) (ih _ ?_))⟩
      · rw [ly_cl (i := q) (by omega), ly_cl (i := i) (by omega), hlq, hr.1, ly_shl _ hr.2, ly_ndf _ (hL q hq).2 _ (ly_pwL hr.2)]
      · intro p hp6
        by_cases z : p = q
        · subst z; rw [pk_us, if_pos (by omega)]
        · rw [pk_un z, h p hp6]
          by_cases y : p < q
          · rw [if_pos y, if_pos (by omega)]
          · rw [if_neg y, if_neg (by omega)]
  obtain ⟨g, hg⟩ := K
  exact ⟨g, hg nl (fun p hp6 => by rw [if_neg (by omega)]; exact (hL p hp6).1)⟩
def ly_N6 (nn : Nat → Int32) (b0 b1 b2 b3 : Int32) (a4 a5 : Nat) : Prop := nn 0 = b0 ∧ nn 1 = b1 ∧ nn 2 = b2 ∧ nn 3 = b3 ∧ nn 4 = nI a4 ∧ nn 5 = nI a5
theorem lz_91 {post : SY → Prop} {J : Int32 → Int32 → (Nat → Int32) → (Nat → Int32) → (Nat → Int32) → (Nat → Int32) → (Nat → Int32) → (Nat → Int32) → (Nat → Int32) → Prop} {nl nn : Nat → Int32} {i a4 a5 w : Nat} {b0 b1 b2 b3 z : Int32} (hm : ∀ p, p < 6 → m p < 64) (hr : ∀ j, j < 6 → nr j = nI (r j) ∧ r j < 6) (hi : i < 6)
    (hl : ∀ p, p < 6 → nl p = nI (ly_lf m r i p)) (h : ly_N6 nn b0 b1 b2 b3 a4 a5) (hz : z = nI w)
    (hJ : ∀ nl' nn' : Nat → Int32, (∀ p, p < 6 → nl' p = nI (ly_lf m r (i + 1) p)) → ly_N6 nn' b0 b1 b2 b3 w (a5 + ly_c5 m r i) → J (nI (i + 1)) fk na nl' nr nn' ne nc nf) :
    wY_takeApart_91 post J (nI i) (nI (ly_lf m r i (r i))) z 4 fk na nl nr nn ne nc nf := by
  obtain ⟨h0, h1, h2, h3, h4, h5⟩ := h
  have hr' : ∀ j, j < 6 → r j < 6 := fun j hj => (hr j hj).2
  have hlf := ly_lfL hm hr' i (by omega)
  unfold wY_takeApart_91
  refine ⟨ly_in6 (i := 4) (by decide), nm_e ?_⟩
  rw [show (4 : Int32).toNatClampNeg = 4 from rfl]
  refine lz_join (L := ly_lf m r i) (hlf _ (hr' i hi)) (fun p hp => ⟨hl p hp, hlf p hp⟩) (fun nl' g => nm_e ?_)
  refine lz_113 (L := ly_jl (ly_lf m r i) (ly_lf m r i (r i))) hi (hr i hi) (fun p hp => ⟨g p hp, ly_jlL (hlf _ (hr' i hi)) (hlf p hp)⟩) (fun nl2 g2 => hJ nl2 _ g2 ?_)
  refine ⟨?_, ?_, ?_, ?_, ?_, ?_⟩
  · rw [pk_un (by decide), pk_un (by decide)]; exact h0
  · rw [pk_un (by decide), pk_un (by decide)]; exact h1
  · rw [pk_un (by decide), pk_un (by decide)]; exact h2
  · rw [pk_un (by decide), pk_un (by decide)]; exact h3
  · rw [pk_un (by decide), pk_us]; exact hz
  · rw [pk_us, pk_un (by decide), h5, nI_add]; rfl
theorem lz_42 {post : SY → Prop} {nl nn : Nat → Int32} {b0 b1 b2 b3 : Int32} (hm : ∀ p, p < 6 → m p < 64) (hr : ∀ j, j < 6 → nr j = nI (r j) ∧ r j < 6)
    (hl : ∀ p, p < 6 → nl p = nI (m p)) (h : ly_N6 nn b0 b1 b2 b3 0 0)
    (hp : ∀ nl' nn' : Nat → Int32, ly_N6 nn' b0 b1 b2 b3 (ly_mx (ly_c4 m r) 6) (ly_s (ly_c5 m r) 6) → post (fk, na, nl', nr, nn', ne, nc, nf)) :
    ∃ g, wY_takeApart_42 post g 0 fk na nl nr nn ne nc nf := by
  have hr' : ∀ j, j < 6 → r j < 6 := fun j hj => (hr j hj).2
  have K : ∃ g, ∀ nl nn : Nat → Int32, (∀ p, p < 6 → nl p = nI (ly_lf m r 0 p)) → ly_N6 nn b0 b1 b2 b3 (ly_mx (ly_c4 m r) 0) (ly_s (ly_c5 m r) 0) → wY_takeApart_42 post g (nI 0) fk na nl nr nn ne nc nf := by
    refine ly_lp (W := fun g i => ∀ nl nn : Nat → Int32, (∀ p, p < 6 → nl p = nI (ly_lf m r i p)) → ly_N6 nn b0 b1 b2 b3 (ly_mx (ly_c4 m r) i) (ly_s (ly_c5 m r) i) → wY_takeApart_42 post g (nI i) fk na nl nr nn ne nc nf) 6 0 (by decide)
      (fun g nl nn _ h => br_t ly_66 (hp nl nn h)) ?_
    intro g i _ hi ih nl nn hl h
    have hri := hr i hi
    have hlf := ly_lfL hm hr' i (by omega)
    have hmx := ly_mxB (f := ly_c4 m r) (b := 36) i (fun j _ => ly_c4B m r j)
    have hc4 := ly_c4B m r i
    have es : ly_mx (ly_c4 m r) (i + 1) = if ly_c4 m r i ≤ ly_mx (ly_c4 m r) i then ly_mx (ly_c4 m r) i else ly_c4 m r i := rfl
    rw [es] at ih
    refine br_f (ly_6 hi) ⟨ly_in6 hi, ?_⟩
    rw [ly_cl (i := i) (by omega), hri.1]
    refine ⟨ly_in6 hri.2, ?_⟩
    rw [ly_cl (i := r i) (by omega)]
    refine nm_r (hl _ hri.2) (lz_bits (hlf _ hri.2) ?_)
    rw [h.2.2.2.2.1]
    refine pk_le (ly_c4 m r i) (ly_mx (ly_c4 m r) i) (fun z => ?_) (fun z => ?_) rfl rfl (by omega) (by omega)
    · rw [if_pos z] at ih
      exact lz_91 hm hr hi hl h rfl ih
    · rw [if_neg (by omega)] at ih
      exact lz_91 hm hr hi hl h rfl ih
  obtain ⟨g, hg⟩ := K
  exact ⟨g, hg nl nn hl h⟩
theorem lz_apart {post : SY → Prop} {nl nn : Nat → Int32} (N : ly_N na m) (hr : ∀ j, j < 6 → nr j = nI (r j) ∧ r j < 6)
    (hp : ∀ nl' nn' : Nat → Int32, ly_N6 nn' (nn 0) (nn 1) (nn 2) (nn 3) (ly_mx (ly_c4 m r) 6) (ly_s (ly_c5 m r) 6) → post (fk, na, nl', nr, nn', ne, nc, nf)) :
    wpY_takeApart post (fk, na, nl, nr, nn, ne, nc, nf) := by
  have K : ∃ g, ∀ nl : Nat → Int32, (∀ p, p < 0 → nl p = nI (m p)) → wY_takeApart_2 post fk g (nI 0) na nl nr nn ne nc nf := by
    refine ly_lp (W := fun g i => ∀ nl : Nat → Int32, (∀ p, p < i → nl p = nI (m p)) → wY_takeApart_2 post fk g (nI i) na nl nr nn ne nc nf) 6 0 (by decide) ?_ ?_
    · intro g nl h
      refine br_t ly_66 (nm_e (nm_e (lz_42 (fun p hp => (N p hp).2) hr h ?_ hp)))
      refine ⟨?_, ?_, ?_, ?_, ?_, ?_⟩
      · rw [pk_un (by decide), pk_un (by decide)]
      · rw [pk_un (by decide), pk_un (by decide)]
      · rw [pk_un (by decide), pk_un (by decide)]
      · rw [pk_un (by decide), pk_un (by decide)]
      · rw [pk_un (by decide), pk_us]; rfl
      · rw [pk_us]; rfl
    · intro g i _ hi ih nl h
      refine br_f (ly_6 hi) ⟨ly_in6 hi, ly_in6 hi, nm_r (e' := upd nl i (nI (m i))) (by rw [ly_cl (i := i) (by omega), (N i hi).1]) (nm_r (nI_1 i) (ih _ ?_))⟩
      intro p hp'
      by_cases z : p = i
      · subst z; rw [pk_us]
      · rw [pk_un z]; exact h p (by omega)
  obtain ⟨g, hg⟩ := K
  exact ⟨g, hg nl (fun p hp => absurd hp (by omega))⟩
end
end
section
/-! the reference goes over all orders -/
def ly_nu (m r : Nat → Nat) (k : Nat) : Nat := if k = 0 then ly_mx (ly_c0 m r) 6 else if k = 1 then ly_mx (ly_c1 m r) 6 else if k = 2 then ly_n2 m r 6 else if k = 3 then ly_s (ly_c3 m r) 6 else if k = 4 then ly_mx (ly_c4 m r) 6 else ly_s (ly_c5 m r) 6
def ly_f (m : Nat → Nat) (k n : Nat) : Nat := ly_nu m (ly_ro n) k
def ly_lm (f : Nat → Nat) : Nat → Nat
  | 0 => 1000
  | j + 1 => if ly_lm f j ≤ f j then ly_lm f j else f j
def ly_ct (f : Nat → Nat) : Nat → Nat
  | 0 => 0
  | j + 1 => if ly_lm f j ≤ f j then (if f j = ly_lm f j then ly_ct f j + 1 else ly_ct f j) else 1
def ly_ff (f : Nat → Nat) : Nat → Nat
  | 0 => 0
  | j + 1 => if ly_lm f j ≤ f j then ly_ff f j else j
def ly_K (f : Nat → Nat) (j : Nat) (a b c : Int32) : Prop := a = nI (ly_lm f j) ∧ (1 ≤ j → b = nI (ly_ct f j) ∧ c = nI (ly_ff f j))
def ly_Kn (m : Nat → Nat) (ne nc nf : Nat → Int32) : Prop := ∀ q, q < 6 → ly_K (ly_f m q) 720 (ne q) (nc q) (nf q)
theorem ly_nuB (m r : Nat → Nat) (k : Nat) : ly_nu m r k ≤ 216 := by
  unfold ly_nu
  split
  · exact Nat.le_trans (ly_mxB 6 (fun i hi => ly_c0B m r i hi)) (by decide)
  split
  · exact Nat.le_trans (ly_mxB 6 (fun i hi => ly_c1B m r i hi)) (by decide)
  split
  · exact Nat.le_trans (ly_n2B m r 6 (by decide)) (by decide)
  split
  · exact Nat.le_trans (ly_s3B m r 6 (by decide)) (by decide)
  split
  · exact Nat.le_trans (ly_mxB 6 (fun i _ => ly_c4B m r i)) (by decide)
  · exact Nat.le_trans (ly_sL (fun i => ly_c5B m r i) 6) (by decide)
theorem ly_fB (m : Nat → Nat) (k n : Nat) : ly_f m k n ≤ 216 := ly_nuB _ _ _
theorem ly_lmB (f : Nat → Nat) : ∀ j, ly_lm f j ≤ 1000 := by
  intro j
  induction j with
  | zero => exact Nat.le_refl _
  | succ j ih =>
    show (if ly_lm f j ≤ f j then ly_lm f j else f j) ≤ 1000
    split
    · exact ih
    · omega
section
variable {fk : Int32} {na : Nat → Int32} {m : Nat → Nat}
theorem lz_122 {post : SY → Prop} {J : Int32 → Int32 → (Nat → Int32) → (Nat → Int32) → (Nat → Int32) → (Nat → Int32) → (Nat → Int32) → (Nat → Int32) → (Nat → Int32) → Prop} {J6 : Int32 → (Nat → Int32) → (Nat → Int32) → (Nat → Int32) → (Nat → Int32) → (Nat → Int32) → (Nat → Int32) → (Nat → Int32) → Prop} {nl nr nn ne nc nf : Nat → Int32} {n k : Nat} {z : Int32} (hk : k < 6) (hn : nn k = nI (ly_f m k n)) (hK : ly_K (ly_f m k) n (ne k) (nc k) (nf k)) (hz : z = nI (ly_ct (ly_f m k) (n + 1)))
    (hJ : ∀ ne' nc' nf' : Nat → Int32, (∀ q, q ≠ k → ne' q = ne q ∧ nc' q = nc q ∧ nf' q = nf q) → ly_K (ly_f m k) (n + 1) (ne' k) (nc' k) (nf' k) → J6 (nI (k + 1)) na nl nr nn ne' nc' nf') :
    wY_goOver_122 post J J6 (nI n) (nI k) z (nI k) fk na nl nr nn ne nc nf := by
  have hfb := ly_fB m k n
  have hlb := ly_lmB (ly_f m k) n
  have e1 : ly_lm (ly_f m k) (n + 1) = if ly_lm (ly_f m k) n ≤ ly_f m k n then ly_lm (ly_f m k) n else ly_f m k n := rfl
  have e2 : ly_ff (ly_f m k) (n + 1) = if ly_lm (ly_f m k) n ≤ ly_f m k n then ly_ff (ly_f m k) n else n := rfl
  have hI := ly_in6 hk
  unfold wY_goOver_122
  refine ⟨hI, nm_e ⟨hI, hI, ?_⟩⟩
  rw [ly_cl (i := k) (by omega), hn, hK.1]
  refine pk_le (ly_lm (ly_f m k) n) (ly_f m k n) (fun y => ⟨hI, ?_⟩) (fun y => ?_) rfl rfl (by omega) (by omega)
  · have hn1 : 1 ≤ n := by
      rcases Nat.eq_zero_or_pos n with z0 | z0
      · subst z0
        have : ly_lm (ly_f m k) 0 = 1000 := rfl
        omega
      · exact z0
    unfold wY_goOver_153
    refine ⟨hI, nm_e ⟨hI, hI, ?_⟩⟩
    rw [ly_cl (i := k) (by omega), hn, hK.1]
    refine br_t (nI_le y (by omega)) ⟨hI, hI, nm_e (nm_r (nI_1 k) (hJ _ _ _ ?_ ?_))⟩
    · intro q hq
      rw [pk_un hq, pk_un hq, pk_un hq]; exact ⟨rfl, rfl, rfl⟩
    · rw [pk_us, pk_us, pk_us]
      refine ⟨by rw [e1, if_pos y], fun _ => ⟨hz, ?_⟩⟩
      rw [e2, if_pos y]; exact (hK.2 hn1).2
  · unfold wY_goOver_153
    refine ⟨hI, nm_e ⟨hI, hI, ?_⟩⟩
    rw [ly_cl (i := k) (by omega), hn, hK.1]
    refine br_f (nI_ge y (by omega)) ⟨hI, hI, nm_e (nm_r (nI_1 k) (hJ _ _ _ ?_ ?_))⟩
    · intro q hq
      rw [pk_un hq, pk_un hq, pk_un hq]; exact ⟨rfl, rfl, rfl⟩
    · rw [pk_us, pk_us, pk_us]
      refine ⟨by rw [e1, if_neg (by omega)], fun _ => ⟨hz, ?_⟩⟩
      rw [e2, if_neg (by omega)]
theorem lz_60 {post : SY → Prop} {J : Int32 → Int32 → (Nat → Int32) → (Nat → Int32) → (Nat → Int32) → (Nat → Int32) → (Nat → Int32) → (Nat → Int32) → (Nat → Int32) → Prop} {nl nr nn ne nc nf : Nat → Int32} {n : Nat} (hn : ∀ k, k < 6 → nn k = nI (ly_f m k n)) (hK : ∀ q, q < 6 → ly_K (ly_f m q) n (ne q) (nc q) (nf q))
    (hJ : ∀ ne' nc' nf' : Nat → Int32, (∀ q, q < 6 → ly_K (ly_f m q) (n + 1) (ne' q) (nc' q) (nf' q)) → J (nI (n + 1)) fk na nl nr nn ne' nc' nf') :
    ∃ g, wY_goOver_60 post J (nI n) fk g 0 na nl nr nn ne nc nf := by
  have L : ∃ g, ∀ ne nc nf : Nat → Int32, (∀ q, q < 6 → ly_K (ly_f m q) (if q < 0 then n + 1 else n) (ne q) (nc q) (nf q)) → wY_goOver_60 post J (nI n) fk g (nI 0) na nl nr nn ne nc nf := by
    refine ly_lp (W := fun g k => ∀ ne nc nf : Nat → Int32, (∀ q, q < 6 → ly_K (ly_f m q) (if q < k then n + 1 else n) (ne q) (nc q) (nf q)) → wY_goOver_60 post J (nI n) fk g (nI k) na nl nr nn ne nc nf) 6 0 (by decide) ?_ ?_
    · intro g ne nc nf h
      refine br_t ly_66 (nm_r (nI_1 n) (hJ ne nc nf (fun q hq => ?_)))
      have := h q hq
      rw [if_pos hq] at this
      exact this
    · intro g k _ hk ih ne nc nf h
      have hfb := ly_fB m k n
      have hlb := ly_lmB (ly_f m k) n
      have hI := ly_in6 hk
      have hKk := h k hk
      rw [if_neg (Nat.lt_irrefl k)] at hKk
      have e3 : ly_ct (ly_f m k) (n + 1) = if ly_lm (ly_f m k) n ≤ ly_f m k n then (if ly_f m k n = ly_lm (ly_f m k) n then ly_ct (ly_f m k) n + 1 else ly_ct (ly_f m k) n) else 1 := rfl
      have go : ∀ ne' nc' nf' : Nat → Int32, (∀ q, q ≠ k → ne' q = ne q ∧ nc' q = nc q ∧ nf' q = nf q) → ly_K (ly_f m k) (n + 1) (ne' k) (nc' k) (nf' k) → wY_goOver_60 post J (nI n) fk g (nI (k + 1)) na nl nr nn ne' nc' nf' := by
        intro ne' nc' nf' ho hk1
        refine ih ne' nc' nf' (fun q hq => ?_)
        by_cases z : q = k
        · subst z; rw [if_pos (by omega)]; exact hk1
        · obtain ⟨o1, o2, o3⟩ := ho q z
          rw [o1, o2, o3]
          have := h q hq
          by_cases y : q < k
          · rw [if_pos y] at this; rw [if_pos (by omega)]; exact this
          · rw [if_neg y] at this; rw [if_neg (by omega)]; exact this
      refine br_f (ly_6 hk) ⟨hI, hI, ?_⟩
      rw [ly_cl (i := k) (by omega), hn k hk, hKk.1]
      refine pk_le (ly_lm (ly_f m k) n) (ly_f m k n) (fun y => ⟨hI, hI, ?_⟩) (fun y => ?_) rfl rfl (by omega) (by omega)
      · have hn1 : 1 ≤ n := by
          rcases Nat.eq_zero_or_pos n with z0 | z0
          · subst z0
            have : ly_lm (ly_f m k) 0 = 1000 := rfl
            omega
          · exact z0
        rw [if_pos y] at e3
        refine pk_eq (ly_f m k n) (ly_lm (ly_f m k) n) (fun z => ⟨hI, ?_⟩) (fun z => ⟨hI, ?_⟩) rfl rfl (by omega) (by omega)
        · rw [if_pos z] at e3
          exact lz_122 hk (hn k hk) hKk (by rw [e3, (hKk.2 hn1).1, nI_1]) go
        · rw [if_neg z] at e3
          exact lz_122 hk (hn k hk) hKk (by rw [e3, (hKk.2 hn1).1]) go
      · rw [if_neg (by omega)] at e3
        exact lz_122 hk (hn k hk) hKk (by rw [e3]; rfl) go
  obtain ⟨g, hg⟩ := L
  exact ⟨g, hg ne nc nf (fun q hq => by rw [if_neg (by omega)]; exact hK q hq)⟩
theorem lz_goOver {post : SY → Prop} {nl nr nn ne nc nf : Nat → Int32} (N : ly_N na m) (hk : fk ≠ 0 → ly_Kn m ne nc nf)
    (hp : ∀ (fk' : Int32) (nl' nr' nn' ne' nc' nf' : Nat → Int32), ly_Kn m ne' nc' nf' → post (fk', na, nl', nr', nn', ne', nc', nf')) : wpY_goOver post (fk, na, nl, nr, nn, ne, nc, nf) := by
  have L38 : ∃ g, ∀ nl nr nn ne nc nf : Nat → Int32, (∀ q, q < 6 → ly_K (ly_f m q) 0 (ne q) (nc q) (nf q)) → wY_goOver_38 post g (nI 0) 1 na nl nr nn ne nc nf := by
    refine ly_lp (W := fun g j => ∀ nl nr nn ne nc nf : Nat → Int32, (∀ q, q < 6 → ly_K (ly_f m q) j (ne q) (nc q) (nf q)) → wY_goOver_38 post g (nI j) 1 na nl nr nn ne nc nf) 720 0 (by decide) ?_ ?_
    · intro g nl nr nn ne nc nf h
      exact br_t (nI_le (a := 720) (b := 720) (by decide) (by decide)) (hp 1 nl nr nn ne nc nf h)
    · intro g j _ hj ih nl nr nn ne nc nf h
      refine br_f (nI_ge (b := 720) hj (by decide)) (lz_setOrder (by omega) (fun nr1 h1 => ?_))
      have hr : ∀ i, i < 6 → nr1 i = nI (ly_ro j i) ∧ ly_ro j i < 6 := fun i hi => ⟨h1 i hi, ly_roL j i⟩
      refine lz_lay N hr (fun nn1 h2 => ?_)
      refine lz_apart N hr (fun nl2 nn2 h3 => ?_)
      refine lz_60 (m := m) ?_ h (fun ne' nc' nf' h4 => ih nl2 nr1 nn2 ne' nc' nf' h4)
      intro k hk6
      obtain ⟨a0, a1, a2, a3, _, _⟩ := h2
      obtain ⟨c0, c1, c2, c3, c4, c5⟩ := h3
      have hk' : k = 0 ∨ k = 1 ∨ k = 2 ∨ k = 3 ∨ k = 4 ∨ k = 5 := by omega
      rcases hk' with e | e | e | e | e | e <;> subst e
      · exact c0.trans a0
      · exact c1.trans a1
      · exact c2.trans a2
      · exact c3.trans a3
      · exact c4
      · exact c5
  obtain ⟨g38, h38⟩ := L38
  have L15 : ∃ g, ∀ ne : Nat → Int32, (∀ q, q < 0 → ne q = nI 1000) → wY_goOver_15 post 1 g (nI 0) na nl nr nn ne nc nf := by
    refine ly_lp (W := fun g i => ∀ ne : Nat → Int32, (∀ q, q < i → ne q = nI 1000) → wY_goOver_15 post 1 g (nI i) na nl nr nn ne nc nf) 6 0 (by decide) ?_ ?_
    · intro g ne h
      exact br_t ly_66 ⟨g38, h38 _ _ _ _ _ _ (fun q hq => ⟨h q hq, fun z => absurd z (by omega)⟩)⟩
    · intro g i _ hi ih ne h
      refine br_f (ly_6 hi) ⟨ly_in6 hi, nm_r (e' := upd ne i (nI 1000)) (by rw [ly_cl (i := i) (by omega)]; rfl) (nm_r (nI_1 i) (ih _ ?_))⟩
      intro q hq
      by_cases z : q = i
      · subst z; rw [pk_us]
      · rw [pk_un z]; exact h q (by omega)
  obtain ⟨g15, h15⟩ := L15
  exact br_c (fun _ => ⟨g15, h15 ne (fun q hq => absurd hq (by omega))⟩) (fun z => hp fk nl nr nn ne nc nf (hk z))
theorem lz_least {post : Int32 → SY → Prop} {nl nr nn ne nc nf : Nat → Int32} {k : Nat} (N : ly_N na m) (hk6 : k < 6) (hk : fk ≠ 0 → ly_Kn m ne nc nf)
    (hp : ∀ (fk' : Int32) (nl' nr' nn' ne' nc' nf' : Nat → Int32), ly_Kn m ne' nc' nf' → post (nI (ly_lm (ly_f m k) 720)) (fk', na, nl', nr', nn', ne', nc', nf')) : wpY_least post (fk, na, nl, nr, nn, ne, nc, nf) (nI k) := by
  unfold wpY_least
  refine lz_goOver N hk (fun fk' nl' nr' nn' ne' nc' nf' h => ⟨ly_in6 hk6, ?_⟩)
  rw [ly_cl (i := k) (by omega), (h k hk6).1]
  exact hp _ _ _ _ _ _ _ h
theorem lz_countLeast {post : Int32 → SY → Prop} {nl nr nn ne nc nf : Nat → Int32} {k : Nat} (N : ly_N na m) (hk6 : k < 6) (hk : fk ≠ 0 → ly_Kn m ne nc nf)
    (hp : ∀ (fk' : Int32) (nl' nr' nn' ne' nc' nf' : Nat → Int32), ly_Kn m ne' nc' nf' → post (nI (ly_ct (ly_f m k) 720)) (fk', na, nl', nr', nn', ne', nc', nf')) : wpY_countLeast post (fk, na, nl, nr, nn, ne, nc, nf) (nI k) := by
  unfold wpY_countLeast
  refine lz_goOver N hk (fun fk' nl' nr' nn' ne' nc' nf' h => ⟨ly_in6 hk6, ?_⟩)
  rw [ly_cl (i := k) (by omega), ((h k hk6).2 (by decide)).1]
  exact hp _ _ _ _ _ _ _ h
theorem lz_firstLeast {post : Int32 → SY → Prop} {nl nr nn ne nc nf : Nat → Int32} {k i : Nat} (N : ly_N na m) (hk6 : k < 6) (hi : i < 6) (hF : ly_ff (ly_f m k) 720 < 720) (hk : fk ≠ 0 → ly_Kn m ne nc nf)
    (hp : ∀ (fk' : Int32) (nl' nr' nn' ne' nc' nf' : Nat → Int32), ly_Kn m ne' nc' nf' → post (nI (ly_ro (ly_ff (ly_f m k) 720) i)) (fk', na, nl', nr', nn', ne', nc', nf')) : wpY_firstLeast post (fk, na, nl, nr, nn, ne, nc, nf) (nI k) (nI i) := by
  unfold wpY_firstLeast
  refine br_f (nI_pos (by omega)) (br_t (nI_le (b := 5) (by omega) (by decide)) ?_)
  refine lz_goOver N hk (fun fk' nl' nr' nn' ne' nc' nf' h => ⟨ly_in6 hk6, ?_⟩)
  rw [ly_cl (i := k) (by omega), ((h k hk6).2 (by decide)).2]
  refine lz_setOrder (by omega) (fun nr2 h2 => ⟨ly_in6 hi, ?_⟩)
  rw [ly_cl (i := i) (by omega), h2 i hi]
  exact hp _ _ _ _ _ _ _ h
theorem lz_widthNow {post : Int32 → SY → Prop} {nl nr nn ne nc nf : Nat → Int32} (N : ly_N na m)
    (hp : ∀ nl' nr' nn' : Nat → Int32, post (nI (ly_lm (ly_f m 4) 720)) (fk, na, nl', nr', nn', ne, nc, nf)) : wpY_widthNow post (fk, na, nl, nr, nn, ne, nc, nf) := by
  have L : ∃ g, ∀ nl nr nn : Nat → Int32, wY_widthNow_6 post g (nI (ly_lm (ly_f m 4) 0)) (nI 0) fk na nl nr nn ne nc nf := by
    refine ly_lp (W := fun g j => ∀ nl nr nn : Nat → Int32, wY_widthNow_6 post g (nI (ly_lm (ly_f m 4) j)) (nI j) fk na nl nr nn ne nc nf) 720 0 (by decide) ?_ ?_
    · intro g nl nr nn
      exact br_t (nI_le (a := 720) (b := 720) (by decide) (by decide)) (hp nl nr nn)
    · intro g j _ hj ih nl nr nn
      have hfb := ly_fB m 4 j
      have hlb := ly_lmB (ly_f m 4) j
      have e1 : ly_lm (ly_f m 4) (j + 1) = if ly_lm (ly_f m 4) j ≤ ly_f m 4 j then ly_lm (ly_f m 4) j else ly_f m 4 j := rfl
      refine br_f (nI_ge (b := 720) hj (by decide)) (lz_setOrder (by omega) (fun nr1 h1 => ?_))
      have hr : ∀ i, i < 6 → nr1 i = nI (ly_ro j i) ∧ ly_ro j i < 6 := fun i hi => ⟨h1 i hi, ly_roL j i⟩
      refine lz_apart N hr (fun nl2 nn2 h3 => ?_)
      have c4 : nn2 4 = nI (ly_f m 4 j) := h3.2.2.2.2.1
      show (nI (ly_lm (ly_f m 4) j) ≤ nn2 4 → _) ∧ (¬ nI (ly_lm (ly_f m 4) j) ≤ nn2 4 → _)
      rw [c4]
      rw [e1] at ih
      refine pk_le (ly_lm (ly_f m 4) j) (ly_f m 4 j) (fun y => ?_) (fun y => ?_) rfl rfl (by omega) (by omega)
      · rw [if_pos y] at ih
        exact nm_r (nI_1 j) (ih _ _ _)
      · rw [if_neg (by omega)] at ih
        exact nm_e (nm_r (nI_1 j) (ih _ _ _))
  obtain ⟨g, hg⟩ := L
  exact ⟨g, hg nl nr nn⟩
end
end
section
/-! all orders: by their first point (as in a dictionary), and by their last -/
def ly_fl {α : Type} (f : Nat → List α) : Nat → List α
  | 0 => []
  | n + 1 => ly_fl f n ++ f n
def ly_en : Nat → Nat → List (List Nat)
  | 0, _ => [[]]
  | d + 1, S => ly_fl (fun p => if S.testBit p = true then [] else (ly_en d (S ||| 2 ^ p)).map (fun o => p :: o)) 6
def ly_er : Nat → Nat → List (List Nat)
  | 0, _ => [[]]
  | d + 1, S => ly_fl (fun p => if S.testBit p = true then (ly_er d (ly_df S (2 ^ p))).map (fun o => o ++ [p]) else []) 6
def ly_ol (n : Nat) : List Nat := [ly_ro n 0, ly_ro n 1, ly_ro n 2, ly_ro n 3, ly_ro n 4, ly_ro n 5]
theorem ly_enO : (List.range 720).map ly_ol = ly_en 6 0 := by decide +kernel
section
variable {α : Type} {f : Nat → List α}
theorem ly_flM {o : α} : ∀ n, o ∈ ly_fl f n ↔ ∃ p, p < n ∧ o ∈ f p := by
  intro n
  induction n with
  | zero => exact ⟨fun h => (nomatch h), fun ⟨p, hp, _⟩ => absurd hp (by omega)⟩
  | succ n ih =>
    show o ∈ ly_fl f n ++ f n ↔ _
    rw [List.mem_append, ih]
    constructor
    · rintro (⟨p, hp, h⟩ | h)
      · exact ⟨p, by omega, h⟩
      · exact ⟨n, by omega, h⟩
    · rintro ⟨p, hp, h⟩
      rcases Nat.lt_or_ge p n with z | z
      · exact Or.inl ⟨p, z, h⟩
      · have e : p = n := by omega
        rw [← e]; exact Or.inr h
theorem ly_flC (P : α → Bool) : ∀ n, (ly_fl f n).countP P = ly_s (fun p => (f p).countP P) n := by
  intro n
  induction n with
  | zero => rfl
  | succ n ih =>
    show (ly_fl f n ++ f n).countP P = ly_s (fun p => (f p).countP P) n + (f n).countP P
    rw [List.countP_append, ih]
theorem ly_flF {P : α → Bool} {o : α} : ∀ n, (ly_fl f n).find? P = some o → ∃ p, p < n ∧ (f p).find? P = some o ∧ ∀ q, q < p → (f q).find? P = none := by
  intro n
  induction n with
  | zero => intro h; cases h
  | succ n ih =>
    intro h
    rw [show ly_fl f (n + 1) = ly_fl f n ++ f n from rfl, List.find?_append] at h
    cases hx : (ly_fl f n).find? P with
    | some o' =>
      rw [hx] at h
      have e : o' = o := Option.some.inj h
      rw [e] at hx
      obtain ⟨p, hp, h1, h2⟩ := ih hx
      exact ⟨p, by omega, h1, h2⟩
    | none =>
      rw [hx] at h
      refine ⟨n, by omega, h, ?_⟩
      intro q hq
      rw [List.find?_eq_none] at hx ⊢
      intro x hx2
      exact hx x ((ly_flM n).mpr ⟨q, hq, hx2⟩)
theorem ly_flN (key : α → Nat) : ∀ n, (∀ p, p < n → (f p).Nodup) → (∀ p, p < n → ∀ o, o ∈ f p → key o = p) → (ly_fl f n).Nodup := by
  intro n
  induction n with
  | zero => intro _ _; exact List.nodup_nil
  | succ n ih =>
    intro h1 h2
    show (ly_fl f n ++ f n).Nodup
    rw [List.nodup_append]
    refine ⟨ih (fun p hp => h1 p (by omega)) (fun p hp => h2 p (by omega)), h1 n (by omega), ?_⟩
    intro a ha b hb e
    obtain ⟨p, hp, hpa⟩ := (ly_flM n).mp ha
    have e1 := h2 p (by omega) a hpa
    have e2 := h2 n (by omega) b hb
    rw [e] at e1
    omega
end
theorem ly_enM : ∀ d S o, o ∈ ly_en d S ↔ (o.length = d ∧ o.Nodup ∧ ∀ x, x ∈ o → x < 6 ∧ S.testBit x = false) := by
  intro d
  induction d with
  | zero =>
    intro S o
    show o ∈ [[]] ↔ _
    rw [List.mem_singleton]
    constructor
    · rintro rfl; exact ⟨rfl, List.nodup_nil, fun x hx => by cases hx⟩
    · rintro ⟨h, _⟩; exact List.length_eq_zero_iff.mp h
  | succ d ih =>
    intro S o
    show o ∈ ly_fl (fun p => if S.testBit p = true then [] else (ly_en d (S ||| 2 ^ p)).map (fun o => p :: o)) 6 ↔ _
    rw [ly_flM]
    constructor
    · rintro ⟨p, hp, h⟩
      by_cases hb : S.testBit p = true
      · rw [if_pos hb] at h; cases h
      · rw [if_neg hb] at h
        obtain ⟨o', ho, rfl⟩ := List.mem_map.mp h
        obtain ⟨h1, h2, h3⟩ := (ih _ _).mp ho
        have hb' : S.testBit p = false := by cases h : S.testBit p; rfl; exact absurd h hb
        refine ⟨by rw [List.length_cons, h1], ?_, ?_⟩
        · rw [List.nodup_cons]
          refine ⟨fun hm => ?_, h2⟩
          have := (h3 p hm).2
          rw [ly_orS] at this; cases this
        · intro x hx
          rcases List.mem_cons.mp hx with e | hx
          · rw [e]; exact ⟨hp, hb'⟩
          · have := h3 x hx
            rw [Nat.testBit_or, Bool.or_eq_false_iff] at this
            exact ⟨this.1, this.2.1⟩
    · rintro ⟨h1, h2, h3⟩
      cases o with
      | nil => cases h1
      | cons p o =>
        have hp := h3 p List.mem_cons_self
        rw [List.nodup_cons] at h2
        refine ⟨p, hp.1, ?_⟩
        rw [if_neg (by rw [hp.2]; decide)]
        refine List.mem_map.mpr ⟨o, (ih _ _).mpr ⟨?_, h2.2, ?_⟩, rfl⟩
        · rw [List.length_cons] at h1; omega
        · intro x hx
          have := h3 x (List.mem_cons_of_mem _ hx)
          refine ⟨this.1, ?_⟩
          rw [Nat.testBit_or, this.2, ly_pwT, Bool.false_or]
          exact decide_eq_false (fun e => h2.1 (by rw [e]; exact hx))
theorem ly_erM : ∀ d S o, o ∈ ly_er d S ↔ (o.length = d ∧ o.Nodup ∧ ∀ x, x ∈ o → x < 6 ∧ S.testBit x = true) := by
  intro d
  induction d with
  | zero =>
    intro S o
    show o ∈ [[]] ↔ _
    rw [List.mem_singleton]
    constructor
    · rintro rfl; exact ⟨rfl, List.nodup_nil, fun x hx => by cases hx⟩
    · rintro ⟨h, _⟩; exact List.length_eq_zero_iff.mp h
  | succ d ih =>
    intro S o
    show o ∈ ly_fl (fun p => if S.testBit p = true then (ly_er d (ly_df S (2 ^ p))).map (fun o => o ++ [p]) else []) 6 ↔ _
    rw [ly_flM]
    constructor
    · rintro ⟨p, hp, h⟩
      by_cases hb : S.testBit p = true
      · rw [if_pos hb] at h
        obtain ⟨o', ho, rfl⟩ := List.mem_map.mp h
        obtain ⟨h1, h2, h3⟩ := (ih _ _).mp ho
        refine ⟨by rw [List.length_append, h1]; rfl, ?_, ?_⟩
        · rw [List.nodup_append]
          refine ⟨h2, by simp, ?_⟩
          intro a ha b hb2 e
          rw [List.mem_singleton] at hb2
          rw [e, hb2] at ha
          have := (h3 p ha).2
          rw [ly_dfS hp] at this; cases this
        · intro x hx
          rcases List.mem_append.mp hx with hx | hx
          · have := h3 x hx
            rw [ly_dfT _ _ _ this.1, Bool.and_eq_true] at this
            exact ⟨this.1, this.2.1⟩
          · rw [List.mem_singleton] at hx
            rw [hx]; exact ⟨hp, hb⟩
      · rw [if_neg hb] at h; cases h
    · rintro ⟨h1, h2, h3⟩
      have hne : o ≠ [] := by intro e; rw [e] at h1; cases h1
      have ho := List.dropLast_concat_getLast hne
      generalize o.getLast hne = p at ho
      generalize o.dropLast = o' at ho
      subst ho
      rw [List.nodup_append] at h2
      have hp := h3 p (List.mem_append.mpr (Or.inr (List.mem_singleton.mpr rfl)))
      refine ⟨p, hp.1, ?_⟩
      rw [if_pos hp.2]
      refine List.mem_map.mpr ⟨o', (ih _ _).mpr ⟨?_, h2.1, ?_⟩, rfl⟩
      · rw [List.length_append] at h1; simp at h1; exact h1
      · intro x hx
        have := h3 x (List.mem_append.mpr (Or.inl hx))
        refine ⟨this.1, ?_⟩
        rw [ly_dfT _ _ _ this.1, this.2, ly_pwT, Bool.true_and]
        have ne : p ≠ x := fun e => h2.2.2 x hx p (List.mem_singleton.mpr rfl) e.symm
        rw [decide_eq_false ne]; rfl
theorem ly_enN : ∀ d S, (ly_en d S).Nodup := by
  intro d
  induction d with
  | zero => intro S; show [[]].Nodup; simp
  | succ d ih =>
    intro S
    refine ly_flN (fun o => o.headD 0) 6 ?_ ?_
    · intro p _
      by_cases hb : S.testBit p = true
      · rw [if_pos hb]; exact List.nodup_nil
      · rw [if_neg hb]
        exact List.Pairwise.map _ (fun a b h e => h (List.cons.inj e).2) (ih _)
    · intro p _ o ho
      by_cases hb : S.testBit p = true
      · rw [if_pos hb] at ho; cases ho
      · rw [if_neg hb] at ho
        obtain ⟨o', _, rfl⟩ := List.mem_map.mp ho
        rfl
theorem ly_erN : ∀ d S, (ly_er d S).Nodup := by
  intro d
  induction d with
  | zero => intro S; show [[]].Nodup; simp
  | succ d ih =>
    intro S
    refine ly_flN (fun o => o.getLast?.getD 0) 6 ?_ ?_
    · intro p _
      by_cases hb : S.testBit p = true
      · rw [if_pos hb]
        exact List.Pairwise.map _ (fun a b h e => h (List.append_cancel_right e)) (ih _)
      · rw [if_neg hb]; exact List.nodup_nil
    · intro p _ o ho
      by_cases hb : S.testBit p = true
      · rw [if_pos hb] at ho
        obtain ⟨o', _, rfl⟩ := List.mem_map.mp ho
        show (o' ++ [p]).getLast?.getD 0 = p
        rw [List.getLast?_concat]; rfl
      · rw [if_neg hb] at ho; cases ho
theorem ly_enP : (ly_er 6 63).Perm (ly_en 6 0) := by
  rw [List.perm_ext_iff_of_nodup (ly_erN _ _) (ly_enN _ _)]
  intro o
  rw [ly_erM, ly_enM]
  constructor
  · rintro ⟨h1, h2, h3⟩
    exact ⟨h1, h2, fun x hx => ⟨(h3 x hx).1, by simp⟩⟩
  · rintro ⟨h1, h2, h3⟩
    exact ⟨h1, h2, fun x hx => ⟨(h3 x hx).1, ly_63 x (h3 x hx).1⟩⟩
theorem ly_enR (o : List Nat) : o ∈ ly_en 6 0 ↔ ∃ n, n < 720 ∧ ly_ol n = o := by
  rw [← ly_enO, List.mem_map]
  constructor
  · rintro ⟨n, hn, e⟩; exact ⟨n, List.mem_range.mp hn, e⟩
  · rintro ⟨n, hn, e⟩; exact ⟨n, List.mem_range.mpr hn, e⟩
/-- every order of the six points has a number -/
theorem ly_has {r : Nat → Nat} (hr : ∀ j, j < 6 → r j < 6) (hd : ∀ i, i < 6 → ∀ j, j < i → r i ≠ r j) : ∃ n, n < 720 ∧ ∀ j, j < 6 → ly_ro n j = r j := by
  have h : [r 0, r 1, r 2, r 3, r 4, r 5] ∈ ly_en 6 0 := by
    rw [ly_enM]
    have d1 := hd 1 (by decide)
    have d2 := hd 2 (by decide)
    have d3 := hd 3 (by decide)
    have d4 := hd 4 (by decide)
    have d5 := hd 5 (by decide)
    refine ⟨rfl, ?_, ?_⟩
    · simp only [List.nodup_cons, List.mem_cons, List.not_mem_nil, or_false, not_or, not_false_eq_true, List.nodup_nil, and_true]
      exact ⟨⟨fun e => d1 0 (by decide) e.symm, fun e => d2 0 (by decide) e.symm, fun e => d3 0 (by decide) e.symm, fun e => d4 0 (by decide) e.symm, fun e => d5 0 (by decide) e.symm⟩,
        ⟨fun e => d2 1 (by decide) e.symm, fun e => d3 1 (by decide) e.symm, fun e => d4 1 (by decide) e.symm, fun e => d5 1 (by decide) e.symm⟩,
        ⟨fun e => d3 2 (by decide) e.symm, fun e => d4 2 (by decide) e.symm, fun e => d5 2 (by decide) e.symm⟩,
        ⟨fun e => d4 3 (by decide) e.symm, fun e => d5 3 (by decide) e.symm⟩, fun e => d5 4 (by decide) e.symm⟩
    · intro x hx
      refine ⟨?_, by simp⟩
      simp only [List.mem_cons, List.not_mem_nil, or_false] at hx
      rcases hx with e | e | e | e | e | e <;> rw [e] <;> exact hr _ (by decide)
  obtain ⟨n, hn, e⟩ := (ly_enR _).mp h
  refine ⟨n, hn, ?_⟩
  unfold ly_ol at e
  simp only [List.cons.injEq, and_true] at e
  intro j hj
  have hj' : j = 0 ∨ j = 1 ∨ j = 2 ∨ j = 3 ∨ j = 4 ∨ j = 5 := by omega
  rcases hj' with z | z | z | z | z | z <;> subst z
  · exact e.1
  · exact e.2.1
  · exact e.2.2.1
  · exact e.2.2.2.1
  · exact e.2.2.2.2.1
  · exact e.2.2.2.2.2
/-- order number n holds each point once -/
theorem ly_roD {n : Nat} (hn : n < 720) : ∀ i, i < 6 → ∀ j, j < i → ly_ro n i ≠ ly_ro n j := by
  have h := (ly_enR (ly_ol n)).mpr ⟨n, hn, rfl⟩
  rw [ly_enM] at h
  have h2 := h.2.1
  unfold ly_ol at h2
  simp only [List.nodup_cons, List.mem_cons, List.not_mem_nil, or_false, not_or, not_false_eq_true, List.nodup_nil, and_true] at h2
  obtain ⟨⟨a1, a2, a3, a4, a5⟩, ⟨b2, b3, b4, b5⟩, ⟨c3, c4, c5⟩, ⟨d4, d5⟩, e5⟩ := h2
  intro i hi j hj e
  have hi' : i = 0 ∨ i = 1 ∨ i = 2 ∨ i = 3 ∨ i = 4 ∨ i = 5 := by omega
  have hj' : j = 0 ∨ j = 1 ∨ j = 2 ∨ j = 3 ∨ j = 4 := by omega
  rcases hi' with z | z | z | z | z | z <;> rcases hj' with y | y | y | y | y <;> subst z <;> subst y <;> first | (exact absurd hj (by decide)) | (exact absurd e.symm (by assumption))
end
section
/-! cut, separation and length of an order, by sums rearranged -/
theorem ly_insN {F : Nat → Nat} {S x : Nat} (hx : S.testBit x = false) : ∀ n, ly_s (fun p => if (S ||| 2 ^ x).testBit p = true then F p else 0) n = ly_s (fun p => if S.testBit p = true then F p else 0) n + (if x < n then F x else 0) := by
  intro n
  induction n with
  | zero => rfl
  | succ n ih =>
    show ly_s (fun p => if (S ||| 2 ^ x).testBit p = true then F p else 0) n + (if (S ||| 2 ^ x).testBit n = true then F n else 0) = ly_s (fun p => if S.testBit p = true then F p else 0) n + (if S.testBit n = true then F n else 0) + _
    rw [ih, Nat.testBit_or, ly_pwT]
    by_cases e : x = n
    · subst e
      rw [hx, if_neg (Nat.lt_irrefl x), if_pos (by simp), if_neg (by decide), if_pos (by omega)]
    · rw [decide_eq_false e, Bool.or_false]
      have e2 : (if x < n + 1 then F x else 0) = (if x < n then F x else 0) := by
        by_cases z : x < n
        · rw [if_pos z, if_pos (show x < n + 1 by omega)]
        · rw [if_neg z, if_neg (show ¬ x < n + 1 by omega)]
      rw [e2]; omega
theorem ly_ins {F : Nat → Nat} {S x : Nat} (h6 : x < 6) (hx : S.testBit x = false) : ly_s (fun p => if (S ||| 2 ^ x).testBit p = true then F p else 0) 6 = ly_s (fun p => if S.testBit p = true then F p else 0) 6 + F x := by
  rw [ly_insN hx, if_pos h6]
theorem ly_s00 : ∀ n, ly_s (fun _ => 0) n = 0 := by
  intro n
  induction n with
  | zero => rfl
  | succ n ih => show ly_s (fun _ => 0) n + 0 = 0; rw [ih]
section
variable {m r : Nat → Nat}
theorem ly_nin (hd : ∀ i, i < 6 → ∀ j, j < i → r i ≠ r j) {i : Nat} (hi : i < 6) : (ly_pm r i).testBit (r i) = false := by
  cases h : (ly_pm r i).testBit (r i)
  · rfl
  · obtain ⟨j, hj, e⟩ := (ly_pmT i).mp h
    exact absurd e.symm (hd i hi j hj)
theorem ly_re (F : Nat → Nat) (hr : ∀ j, j < 6 → r j < 6) (hd : ∀ i, i < 6 → ∀ j, j < i → r i ≠ r j) : ∀ j, j ≤ 6 → ly_s (fun k => F (r k)) j = ly_s (fun p => if (ly_pm r j).testBit p = true then F p else 0) 6 := by
  intro j
  induction j with
  | zero =>
    intro _
    refine Eq.trans (show ly_s (fun k => F (r k)) 0 = 0 from rfl) (Eq.symm (Eq.trans (ly_sC 6 (g := fun _ => 0) ?_) (ly_s00 6)))
    intro i _
    exact if_neg (by show ¬ (Nat.testBit 0 i = true); simp)
  | succ j ih =>
    intro h
    show ly_s (fun k => F (r k)) j + F (r j) = ly_s (fun p => if (ly_pm r j ||| 2 ^ r j).testBit p = true then F p else 0) 6
    rw [ly_ins (hr j (by omega)) (ly_nin hd (by omega)), ih (by omega)]
theorem ly_c0E (hr : ∀ j, j < 6 → r j < 6) (hd : ∀ i, i < 6 → ∀ j, j < i → r i ≠ r j) {i : Nat} (hi : i < 6) : ly_c0 m r i = ly_cut m (ly_pm r (i + 1)) :=
  ly_re (fun x => ly_pc (ly_df (m x) (ly_pm r (i + 1)))) hr hd (i + 1) (by omega)
theorem ly_c1E (hm : ∀ p, p < 6 → m p < 64) (hr : ∀ j, j < 6 → r j < 6) (hd : ∀ i, i < 6 → ∀ j, j < i → r i ≠ r j) {i : Nat} (hi : i < 6) : ly_c1 m r i = ly_sep m (ly_pm r (i + 1)) := by
  refine Eq.trans (ly_re (fun x => if ly_pc (ly_df (m x) (ly_pm r (i + 1))) ≤ 0 then 0 else 1) hr hd (i + 1) (by omega)) (ly_sC 6 ?_)
  intro p hp
  unfold ly_fs
  have e : (if ly_pc (ly_df (m p) (ly_pm r (i + 1))) ≤ 0 then 0 else 1) = (if ly_df (m p) (ly_pm r (i + 1)) = 0 then 0 else 1) := by
    have h0 := ly_pc0 (ly_df (m p) (ly_pm r (i + 1))) (ly_dfL (hm p hp))
    by_cases z : ly_df (m p) (ly_pm r (i + 1)) = 0
    · rw [if_pos z, if_pos (by have := h0.mpr z; omega)]
    · rw [if_neg z, if_neg (fun y => z (h0.mp (by omega)))]
  rw [e]
theorem ly_mxR {f : Nat → Nat} {k : Nat} (hk : k < 3) : ∀ n, (∀ i, i < n → f i = ly_pr k m (ly_pm r i) (r i)) → ly_mx f n = ly_rn k m r n := by
  intro n
  induction n with
  | zero => intro _; rfl
  | succ n ih =>
    intro h
    show (if f n ≤ ly_mx f n then ly_mx f n else f n) = ly_J k (ly_rn k m r n) (ly_pr k m (ly_pm r n) (r n))
    rw [ih (fun i hi => h i (by omega)), ← h n (by omega)]
    unfold ly_J
    rw [if_pos hk]
    split <;> split <;> omega
theorem ly_sR {f : Nat → Nat} {k : Nat} (hk : ¬ k < 3) : ∀ n, (∀ i, i < n → f i = ly_pr k m (ly_pm r i) (r i)) → ly_s f n = ly_rn k m r n := by
  intro n
  induction n with
  | zero => intro _; rfl
  | succ n ih =>
    intro h
    show ly_s f n + f n = ly_J k (ly_rn k m r n) (ly_pr k m (ly_pm r n) (r n))
    rw [ih (fun i hi => h i (by omega)), ← h n (by omega)]
    unfold ly_J
    rw [if_neg hk]
theorem ly_nu0 (hr : ∀ j, j < 6 → r j < 6) (hd : ∀ i, i < 6 → ∀ j, j < i → r i ≠ r j) : ly_nu m r 0 = ly_rn 0 m r 6 :=
  ly_mxR (by decide) 6 (fun i hi => ly_c0E hr hd hi)
theorem ly_nu1 (hm : ∀ p, p < 6 → m p < 64) (hr : ∀ j, j < 6 → r j < 6) (hd : ∀ i, i < 6 → ∀ j, j < i → r i ≠ r j) : ly_nu m r 1 = ly_rn 1 m r 6 :=
  ly_mxR (by decide) 6 (fun i hi => ly_c1E hm hr hd hi)
/-- lines by their lengths, or by the cuts that they cross -/
theorem ly_dbl (E : Nat → Nat → Nat) : ly_s (fun i => ly_s (fun k => E k i * (i - k)) (i + 1)) 6 = ly_s (fun i => ly_s (fun k => ly_s (fun l => if l ≤ i then 0 else E k l) 6) (i + 1)) 6 := by
  simp [ly_s]
  omega
theorem ly_lcE (hr : ∀ j, j < 6 → r j < 6) (hd : ∀ i, i < 6 → ∀ j, j < i → r i ≠ r j) {i k : Nat} (hi : i < 6) : ly_lc m r i k = ly_s (fun l => if l ≤ i then 0 else ((m (r k)).testBit (r l)).toNat) 6 := by
  have h6 : ly_pm r 6 = 63 := (ly_pc6 _ (ly_pmL 6 hr)).mp (ly_pmP 6 (by decide) hr hd)
  have h := ly_re (ly_fb (ly_df (m (r k)) (ly_pm r (i + 1)))) hr hd 6 (by decide)
  rw [h6] at h
  have e : ly_s (fun p => if Nat.testBit 63 p = true then ly_fb (ly_df (m (r k)) (ly_pm r (i + 1))) p else 0) 6 = ly_lc m r i k := ly_sC 6 (fun p hp => if_pos (ly_63 p hp))
  rw [← e, ← h]
  refine ly_sC 6 ?_
  intro l hl
  unfold ly_fb
  rw [ly_dfT _ _ _ (hr l hl)]
  by_cases z : l ≤ i
  · rw [if_pos z, (ly_pmT (i + 1)).mpr ⟨l, by omega, rfl⟩]; simp
  · rw [if_neg z]
    have hn : (ly_pm r (i + 1)).testBit (r l) = false := by
      cases h : (ly_pm r (i + 1)).testBit (r l)
      · rfl
      · obtain ⟨j, hj, e⟩ := (ly_pmT (i + 1)).mp h
        exact absurd e.symm (hd l hl j (by omega))
    rw [hn]; simp
theorem ly_nu3 (hr : ∀ j, j < 6 → r j < 6) (hd : ∀ i, i < 6 → ∀ j, j < i → r i ≠ r j) : ly_nu m r 3 = ly_rn 3 m r 6 := by
  have e1 : ly_s (ly_c3 m r) 6 = ly_s (fun i => ly_s (fun k => ((m (r k)).testBit (r i)).toNat * (i - k)) (i + 1)) 6 := by
    refine ly_sC 6 (fun i _ => ly_sC (i + 1) (fun k _ => ?_))
    unfold ly_l3
    cases (m (r k)).testBit (r i)
    · simp
    · simp
  have e2 : ly_s (fun i => ly_s (fun k => ly_s (fun l => if l ≤ i then 0 else ((m (r k)).testBit (r l)).toNat) 6) (i + 1)) 6 = ly_s (ly_c0 m r) 6 := by
    refine ly_sC 6 (fun i hi => ly_sC (i + 1) (fun k _ => ?_))
    exact (ly_lcE hr hd hi).symm
  show ly_s (ly_c3 m r) 6 = _
  rw [e1, ly_dbl (fun k l => ((m (r k)).testBit (r l)).toNat), e2]
  exact ly_sR (by decide) 6 (fun i hi => ly_c0E hr hd hi)
end
end
section
/-! what is left when points are taken out: the points reached over those taken out -/
theorem ly_pcU : ∀ a, a < 64 → ∀ b, b < 64 → (a ||| b = a ∨ ly_pc a + 1 ≤ ly_pc (a ||| b)) := by decide +kernel
theorem ly_pcP : ∀ p, p < 6 → ly_pc (2 ^ p) = 1 := by decide +kernel
section
variable {m : Nat → Nat}
theorem ly_oGL (hm : ∀ q, q < 6 → m q < 64) (S p s : Nat) : ly_o (ly_g m S p s) 6 < 64 := ly_oL 6 (fun q hq => by unfold ly_g; split; exact hm q hq; decide)
theorem ly_stab (hm : ∀ q, q < 6 → m q < 64) {S p : Nat} (hp : p < 6) : ∀ r, ly_sn m S p (r + 1) = ly_sn m S p r ∨ r + 2 ≤ ly_pc (ly_sn m S p (r + 1)) := by
  intro r
  induction r with
  | zero =>
    have h := ly_pcU (2 ^ p) (ly_pwL hp) _ (ly_oGL hm S p (2 ^ p))
    rw [ly_pcP p hp] at h
    exact h
  | succ r ih =>
    rcases ih with h | h
    · left
      show ly_sn m S p (r + 1) ||| ly_o (ly_g m S p (ly_sn m S p (r + 1))) 6 = ly_sn m S p (r + 1)
      rw [h]
      exact h
    · rcases ly_pcU _ (ly_snL hm hp (r + 1)) _ (ly_oGL hm S p (ly_sn m S p (r + 1))) with z | z
      · exact Or.inl z
      · right
        show r + 1 + 2 ≤ ly_pc (ly_sn m S p (r + 1) ||| ly_o (ly_g m S p (ly_sn m S p (r + 1))) 6)
        omega
theorem ly_fix (hm : ∀ q, q < 6 → m q < 64) {S p : Nat} (hp : p < 6) : ly_sn m S p 6 ||| ly_o (ly_g m S p (ly_sn m S p 6)) 6 = ly_sn m S p 6 := by
  have h5 : ly_sn m S p 6 = ly_sn m S p 5 := by
    rcases ly_stab hm hp 5 (S := S) with h | h
    · exact h
    · have := ly_pcL (ly_sn m S p (5 + 1))
      omega
  rw [h5]
  exact h5
/-- x is reached from p over points of S -/
def ly_rh (m : Nat → Nat) (S p x : Nat) : Prop := (ly_sn m S p 6).testBit x = true
theorem ly_rh0 {S p : Nat} : ly_rh m S p p := by
  have h : ∀ r, (ly_sn m S p r).testBit p = true := by
    intro r
    induction r with
    | zero => show (2 ^ p).testBit p = true; rw [ly_pwT]; simp
    | succ r ih => show (ly_sn m S p r ||| _).testBit p = true; rw [Nat.testBit_or, ih]; rfl
  exact h 6
theorem ly_rhC (hm : ∀ q, q < 6 → m q < 64) {S p : Nat} (hp : p < 6) {q : Nat} (hq : q < 6) (h : ly_rh m S p q) (h2 : q = p ∨ S.testBit q = true) {x : Nat} (hx : (m q).testBit x = true) : ly_rh m S p x := by
  unfold ly_rh
  rw [← ly_fix hm hp, Nat.testBit_or, Bool.or_eq_true]
  right
  rw [ly_oT]
  refine ⟨q, hq, ?_⟩
  unfold ly_g
  rw [if_pos ⟨h, h2⟩]
  exact hx
theorem ly_rhL {S p : Nat} (T : Nat → Prop) (h0 : T p) (hT : ∀ q, q < 6 → T q → (q = p ∨ S.testBit q = true) → ∀ x, (m q).testBit x = true → T x) {x : Nat} (hx : ly_rh m S p x) : T x := by
  have h : ∀ r x, (ly_sn m S p r).testBit x = true → T x := by
    intro r
    induction r with
    | zero =>
      intro x hx
      have hx' : (2 ^ p).testBit x = true := hx
      rw [ly_pwT, decide_eq_true_eq] at hx'
      rw [← hx']; exact h0
    | succ r ih =>
      intro x hx
      have hx' : (ly_sn m S p r ||| ly_o (ly_g m S p (ly_sn m S p r)) 6).testBit x = true := hx
      rw [Nat.testBit_or, Bool.or_eq_true, ly_oT] at hx'
      rcases hx' with h | ⟨q, hq, h⟩
      · exact ih x h
      · unfold ly_g at h
        by_cases c : (ly_sn m S p r).testBit q = true ∧ (q = p ∨ S.testBit q = true)
        · rw [if_pos c] at h
          exact hT q hq (ih q c.1) c.2 x h
        · rw [if_neg c] at h
          simp at h
  exact h 6 x hx
/-- one point more is taken out -/
theorem ly_rhE (hm : ∀ q, q < 6 → m q < 64) {S x u : Nat} (hx : x < 6) (hu : u < 6) (y : Nat) : ly_rh m (S ||| 2 ^ x) u y ↔ (ly_rh m S u y ∨ (ly_rh m S u x ∧ ly_rh m S x y)) := by
  have hS : ∀ q, (S ||| 2 ^ x).testBit q = true ↔ (S.testBit q = true ∨ x = q) := by
    intro q
    rw [Nat.testBit_or, ly_pwT, Bool.or_eq_true, decide_eq_true_eq]
  constructor
  · intro h
    refine ly_rhL (S := S ||| 2 ^ x) (fun y => ly_rh m S u y ∨ (ly_rh m S u x ∧ ly_rh m S x y)) (Or.inl ly_rh0) ?_ h
    intro q hq hT hc z hz
    rcases hT with h1 | ⟨h1, h2⟩
    · rcases hc with e | hb
      · exact Or.inl (ly_rhC hm hu hq h1 (Or.inl e) hz)
      · rcases (hS q).mp hb with b | b
        · exact Or.inl (ly_rhC hm hu hq h1 (Or.inr b) hz)
        · subst b
          exact Or.inr ⟨h1, ly_rhC hm hx hq ly_rh0 (Or.inl rfl) hz⟩
    · rcases hc with e | hb
      · subst e
        exact Or.inl (ly_rhC hm hu hq ly_rh0 (Or.inl rfl) hz)
      · rcases (hS q).mp hb with b | b
        · exact Or.inr ⟨h1, ly_rhC hm hx hq h2 (Or.inr b) hz⟩
        · exact Or.inr ⟨h1, ly_rhC hm hx hq h2 (Or.inl b.symm) hz⟩
  · have mono : ∀ y, ly_rh m S u y → ly_rh m (S ||| 2 ^ x) u y := by
      intro y h
      refine ly_rhL (S := S) (fun y => ly_rh m (S ||| 2 ^ x) u y) ly_rh0 ?_ h
      intro q hq hT hc z hz
      refine ly_rhC hm hu hq hT ?_ hz
      rcases hc with e | b
      · exact Or.inl e
      · exact Or.inr ((hS q).mpr (Or.inl b))
    rintro (h | ⟨h1, h2⟩)
    · exact mono y h
    · refine ly_rhL (S := S) (fun y => ly_rh m (S ||| 2 ^ x) u y) (mono x h1) ?_ h2
      intro q hq hT hc z hz
      refine ly_rhC hm hu hq hT (Or.inr ((hS q).mpr ?_)) hz
      rcases hc with e | b
      · exact Or.inr e.symm
      · exact Or.inl b
theorem ly_nbT {S p y : Nat} (hy : y < 6) : (ly_nb m S p).testBit y = true ↔ (ly_rh m S p y ∧ S.testBit y = false ∧ p ≠ y) := by
  unfold ly_nb ly_rh
  rw [ly_dfT _ _ _ hy, ly_dfT _ _ _ hy, ly_pwT]
  simp [and_assoc]
/-- nothing is taken out yet -/
theorem ly_nb0 (hm : ∀ q, q < 6 → m q < 64) (hs : ly_Sy m) {u : Nat} (hu : u < 6) : ly_nb m 0 u = m u := by
  apply ly_ext (ly_nbL hm hu) (hm u hu)
  intro y hy
  rw [Bool.eq_iff_iff, ly_nbT hy]
  constructor
  · rintro ⟨h, _, ne⟩
    have := ly_rhL (S := 0) (fun y => u = y ∨ (m u).testBit y = true) (Or.inl rfl) (fun q hq _ hc x hx => ?_) h
    · rcases this with e | e
      · exact absurd e ne
      · exact e
    · rcases hc with e | b
      · rw [e] at hx; exact Or.inr hx
      · simp at b
  · intro h
    refine ⟨ly_rhC hm hu hu ly_rh0 (Or.inl rfl) h, by simp, ?_⟩
    intro e
    rw [← e, hs.2 u hu] at h
    cases h
variable {r : Nat → Nat}
theorem ly_jlT {L : Nat → Nat} {X u v : Nat} (hv : v < 6) : (ly_jl L X u).testBit v = true ↔ ((L u).testBit v = true ∨ (X.testBit u = true ∧ X.testBit v = true ∧ u ≠ v)) := by
  unfold ly_jl ly_jm
  by_cases h : X.testBit u = true
  · rw [if_pos h, Nat.testBit_or, ly_dfT _ _ _ hv, ly_dfT _ _ _ hv, ly_pwT, h]
    cases (L u).testBit v <;> cases X.testBit v <;> simp
  · rw [if_neg h]
    constructor
    · intro z; exact Or.inl z
    · rintro (z | z)
      · exact z
      · exact absurd z.1 h
theorem ly_lfE (hm : ∀ q, q < 6 → m q < 64) (hs : ly_Sy m) (hr : ∀ j, j < 6 → r j < 6) (hd : ∀ i, i < 6 → ∀ j, j < i → r i ≠ r j) :
    ∀ i, i ≤ 6 → (∀ u, u < 6 → (ly_pm r i).testBit u = false → ly_lf m r i u = ly_nb m (ly_pm r i) u) ∧
      (∀ u, u < 6 → (ly_pm r i).testBit u = false → ∀ v, v < 6 → (ly_pm r i).testBit v = false → (ly_lf m r i u).testBit v = (ly_lf m r i v).testBit u) := by
  intro i
  induction i with
  | zero =>
    intro _
    refine ⟨fun u hu _ => (ly_nb0 hm hs hu).symm, fun u hu _ v hv _ => hs.1 u hu v hv⟩
  | succ i ih =>
    intro hi
    obtain ⟨I1, I2⟩ := ih (by omega)
    have hx := hr i (by omega)
    have hxn := ly_nin hd (i := i) (by omega)
    have hL := ly_lfL hm hr i (by omega)
    have hpm : ∀ u, (ly_pm r (i + 1)).testBit u = false → (ly_pm r i).testBit u = false ∧ r i ≠ u := by
      intro u h
      have h' : (ly_pm r i ||| 2 ^ r i).testBit u = false := h
      rw [Nat.testBit_or, ly_pwT, Bool.or_eq_false_iff] at h'
      exact ⟨h'.1, of_decide_eq_false h'.2⟩
    have bit : ∀ u, u < 6 → ∀ v, v < 6 → ((ly_lf m r (i + 1) u).testBit v = true ↔ (((ly_lf m r i u).testBit v = true ∨ ((ly_lf m r i (r i)).testBit u = true ∧ (ly_lf m r i (r i)).testBit v = true ∧ u ≠ v)) ∧ r i ≠ v)) := by
      intro u hu v hv
      show (ly_df (ly_jl (ly_lf m r i) (ly_lf m r i (r i)) u) (2 ^ r i)).testBit v = true ↔ _
      rw [ly_dfT _ _ _ hv, ly_pwT, Bool.and_eq_true, ly_jlT hv]
      simp
    constructor
    · intro u hu hun
      obtain ⟨h1, h2⟩ := hpm u hun
      apply ly_ext (ly_lfL hm hr (i + 1) hi u hu) (ly_nbL hm hu)
      intro y hy
      rw [Bool.eq_iff_iff, bit u hu y hy, ly_nbT hy]
      show _ ↔ (ly_rh m (ly_pm r i ||| 2 ^ r i) u y ∧ (ly_pm r i ||| 2 ^ r i).testBit y = false ∧ u ≠ y)
      rw [ly_rhE hm hx hu, Nat.testBit_or, ly_pwT, Bool.or_eq_false_iff, decide_eq_false_iff_not, I2 (r i) hx hxn u hu h1, I1 u hu h1, I1 (r i) hx hxn, ly_nbT hy, ly_nbT hx, ly_nbT hy]
      constructor
      · rintro ⟨(⟨a, b, c⟩ | ⟨⟨a, _, _⟩, ⟨b, c, d⟩, e⟩), ne⟩
        · exact ⟨Or.inl a, ⟨b, ne⟩, c⟩
        · exact ⟨Or.inr ⟨a, b⟩, ⟨c, ne⟩, e⟩
      · rintro ⟨(a | ⟨a, b⟩), ⟨c, ne⟩, e⟩
        · exact ⟨Or.inl ⟨a, c, e⟩, ne⟩
        · exact ⟨Or.inr ⟨⟨a, hxn, fun z => h2 z.symm⟩, ⟨b, c, ne⟩, e⟩, ne⟩
    · intro u hu hun v hv hvn
      obtain ⟨h1, h2⟩ := hpm u hun
      obtain ⟨h3, h4⟩ := hpm v hvn
      rw [Bool.eq_iff_iff, bit u hu v hv, bit v hv u hu, I2 u hu h1 v hv h3]
      constructor
      · rintro ⟨(a | ⟨a, b, c⟩), _⟩
        · exact ⟨Or.inl a, h2⟩
        · exact ⟨Or.inr ⟨b, a, fun z => c z.symm⟩, h2⟩
      · rintro ⟨(a | ⟨a, b, c⟩), _⟩
        · exact ⟨Or.inl a, h4⟩
        · exact ⟨Or.inr ⟨b, a, fun z => c z.symm⟩, h4⟩
theorem ly_nu4 (hm : ∀ q, q < 6 → m q < 64) (hs : ly_Sy m) (hr : ∀ j, j < 6 → r j < 6) (hd : ∀ i, i < 6 → ∀ j, j < i → r i ≠ r j) : ly_nu m r 4 = ly_rn 2 m r 6 := by
  refine ly_mxR (by decide) 6 (fun i hi => ?_)
  unfold ly_c4
  rw [(ly_lfE hm hs hr hd i (by omega)).1 (r i) (hr i hi) (ly_nin hd hi)]
  rfl
theorem ly_nu5 (hm : ∀ q, q < 6 → m q < 64) (hs : ly_Sy m) (hr : ∀ j, j < 6 → r j < 6) (hd : ∀ i, i < 6 → ∀ j, j < i → r i ≠ r j) : ly_nu m r 5 = ly_rn 4 m r 6 := by
  refine ly_sR (by decide) 6 (fun i hi => ?_)
  have I1 := (ly_lfE hm hs hr hd i (by omega)).1
  unfold ly_c5
  rw [I1 (r i) (hr i hi) (ly_nin hd hi)]
  show _ = ly_s (ly_fm m (ly_pm r i) (r i)) 6 / 2
  refine congrArg (fun z => z / 2) (ly_sC 6 (fun q hq => ?_))
  unfold ly_fj ly_fm ly_jm
  by_cases h : (ly_nb m (ly_pm r i) (r i)).testBit q = true
  · rw [if_pos h, if_pos h, I1 q hq ((ly_nbT hq).mp h).2.1]
  · rw [if_neg h, if_neg h]
end
end
section
/-! the tables hold minima over orders -/
def ly_run (k : Nat) (m : Nat → Nat) : Nat → Nat → List Nat → Nat
  | _, s, [] => s
  | S, s, p :: o => ly_run k m (S ||| 2 ^ p) (ly_J k s (ly_pr k m S p)) o
def ly_mk : Nat → List Nat → Nat
  | S, [] => S
  | S, p :: o => ly_mk (S ||| 2 ^ p) o
theorem ly_J0 (k b : Nat) : ly_J k 0 b = b := by unfold ly_J; split <;> simp
theorem ly_J0r (k b : Nat) : ly_J k b 0 = b := by
  unfold ly_J; split
  · split <;> omega
  · omega
theorem ly_Ja (k a b c : Nat) : ly_J k (ly_J k a b) c = ly_J k a (ly_J k b c) := by
  unfold ly_J
  by_cases h : k < 3
  · simp only [if_pos h]
    repeat' split
    all_goals omega
  · simp only [if_neg h]; omega
theorem ly_Jr {k a b b' : Nat} (h : b ≤ b') : ly_J k a b ≤ ly_J k a b' := by
  unfold ly_J
  by_cases z : k < 3
  · simp only [if_pos z]; repeat' split
    all_goals omega
  · simp only [if_neg z]; omega
theorem ly_Jl {k a a' b : Nat} (h : a ≤ a') : ly_J k a b ≤ ly_J k a' b := by
  unfold ly_J
  by_cases z : k < 3
  · simp only [if_pos z]; repeat' split
    all_goals omega
  · simp only [if_neg z]; omega
section
variable {k : Nat} {m : Nat → Nat}
theorem ly_runS : ∀ (o : List Nat) (S s : Nat), ly_run k m S s o = ly_J k s (ly_run k m S 0 o) := by
  intro o
  induction o with
  | nil => intro S s; exact (ly_J0r k s).symm
  | cons p o ih =>
    intro S s
    show ly_run k m (S ||| 2 ^ p) (ly_J k s (ly_pr k m S p)) o = ly_J k s (ly_run k m (S ||| 2 ^ p) (ly_J k 0 (ly_pr k m S p)) o)
    rw [ih _ (ly_J k s (ly_pr k m S p)), ih _ (ly_J k 0 (ly_pr k m S p)), ly_J0, ly_Ja]
theorem ly_runC (S p : Nat) (o : List Nat) : ly_run k m S 0 (p :: o) = ly_J k (ly_pr k m S p) (ly_run k m (S ||| 2 ^ p) 0 o) := by
  show ly_run k m (S ||| 2 ^ p) (ly_J k 0 (ly_pr k m S p)) o = _
  rw [ly_runS, ly_J0]
theorem ly_runA : ∀ (o : List Nat) (S s p : Nat), ly_run k m S s (o ++ [p]) = ly_J k (ly_run k m S s o) (ly_pr k m (ly_mk S o) p) := by
  intro o
  induction o with
  | nil => intro S s p; rfl
  | cons q o ih => intro S s p; exact ih _ _ _
theorem ly_mkA : ∀ (o : List Nat) (S p : Nat), ly_mk S (o ++ [p]) = ly_mk S o ||| 2 ^ p := by
  intro o
  induction o with
  | nil => intro S p; rfl
  | cons q o ih => intro S p; exact ih _ _
theorem ly_erC {d S : Nat} {o : List Nat} : o ∈ ly_er (d + 1) S ↔ ∃ p, p < 6 ∧ S.testBit p = true ∧ ∃ o', o' ∈ ly_er d (ly_df S (2 ^ p)) ∧ o' ++ [p] = o := by
  show o ∈ ly_fl (fun p => if S.testBit p = true then (ly_er d (ly_df S (2 ^ p))).map (fun o => o ++ [p]) else []) 6 ↔ _
  rw [ly_flM]
  constructor
  · rintro ⟨p, hp, h⟩
    by_cases hb : S.testBit p = true
    · rw [if_pos hb] at h
      obtain ⟨o', ho, e⟩ := List.mem_map.mp h
      exact ⟨p, hp, hb, o', ho, e⟩
    · rw [if_neg hb] at h; cases h
  · rintro ⟨p, hp, hb, o', ho, e⟩
    refine ⟨p, hp, ?_⟩
    rw [if_pos hb]
    exact List.mem_map.mpr ⟨o', ho, e⟩
theorem ly_enC {d S : Nat} {o : List Nat} : o ∈ ly_en (d + 1) S ↔ ∃ p, p < 6 ∧ S.testBit p = false ∧ ∃ o', o' ∈ ly_en d (S ||| 2 ^ p) ∧ p :: o' = o := by
  show o ∈ ly_fl (fun p => if S.testBit p = true then [] else (ly_en d (S ||| 2 ^ p)).map (fun o => p :: o)) 6 ↔ _
  rw [ly_flM]
  constructor
  · rintro ⟨p, hp, h⟩
    cases hb : S.testBit p
    · rw [if_neg (by rw [hb]; decide)] at h
      obtain ⟨o', ho, e⟩ := List.mem_map.mp h
      exact ⟨p, hp, hb, o', ho, e⟩
    · rw [if_pos hb] at h; cases h
  · rintro ⟨p, hp, hb, o', ho, e⟩
    refine ⟨p, hp, ?_⟩
    rw [if_neg (by rw [hb]; decide)]
    exact List.mem_map.mpr ⟨o', ho, e⟩
theorem ly_erK : ∀ d S, S < 64 → ly_pc S = d → ∀ o, o ∈ ly_er d S → ly_mk 0 o = S := by
  intro d
  induction d with
  | zero =>
    intro S hS hd o ho
    have e : o = [] := List.mem_singleton.mp ho
    rw [e, (ly_pc0 S hS).mp hd]; rfl
  | succ d ih =>
    intro S hS hd o ho
    obtain ⟨p, hp, hb, o', ho', e⟩ := ly_erC.mp ho
    rw [← e, ly_mkA, ih _ (ly_dfL hS) (by have := ly_pcDf S hS p hp hb; omega) o' ho', ly_dfOr hS hp hb]
theorem ly_mnLe {g : Nat → Bool} {v : Nat → Nat} : ∀ n p, p < n → g p = true → ly_mn g v n ≤ v p := by
  intro n
  induction n with
  | zero => intro p hp; exact absurd hp (by omega)
  | succ n ih =>
    intro p hp hg
    rw [ly_mnS]
    rcases Nat.lt_or_ge p n with z | z
    · have := ih p z hg
      split
      · split <;> omega
      · exact this
    · have e : p = n := by omega
      subst e
      rw [if_pos hg]
      split <;> omega
theorem ly_mnEx {g : Nat → Bool} {v : Nat → Nat} : ∀ n, ly_mn g v n = 1000 ∨ ∃ p, p < n ∧ g p = true ∧ ly_mn g v n = v p := by
  intro n
  induction n with
  | zero => exact Or.inl rfl
  | succ n ih =>
    rw [ly_mnS]
    have up : ly_mn g v n = 1000 ∨ ∃ p, p < n + 1 ∧ g p = true ∧ ly_mn g v n = v p := by
      rcases ih with h | ⟨p, hp, h⟩
      · exact Or.inl h
      · exact Or.inr ⟨p, by omega, h⟩
    by_cases hg : g n = true
    · rw [if_pos hg]
      by_cases z : ly_mn g v n ≤ v n
      · rw [if_pos z]; exact up
      · rw [if_neg z]; exact Or.inr ⟨n, by omega, hg, rfl⟩
    · rw [if_neg hg]; exact up
theorem ly_some {S : Nat} (hS : S < 64) (h : S ≠ 0) : ∃ p, p < 6 ∧ S.testBit p = true := by
  obtain ⟨h1, h2, _⟩ := ly_loF S hS h
  exact ⟨_, h1, h2⟩
theorem ly_none : ∀ S, S < 64 → S ≠ 63 → ∃ p, p < 6 ∧ S.testBit p = false := by decide +kernel
theorem ly_coE : ∀ d S, S < 64 → ly_pc S = d → ly_co k m d S ≤ 36 * d ∧ (∃ o, o ∈ ly_er d S ∧ ly_run k m 0 0 o = ly_co k m d S) ∧ ∀ o, o ∈ ly_er d S → ly_co k m d S ≤ ly_run k m 0 0 o := by
  intro d
  induction d with
  | zero =>
    intro S hS hd
    refine ⟨Nat.le_refl _, ⟨[], List.mem_singleton.mpr rfl, rfl⟩, fun o ho => Nat.zero_le _⟩
  | succ d ih =>
    intro S hS hd
    have hlen := ly_pcL S
    have sub : ∀ p, p < 6 → S.testBit p = true → ly_pc (ly_df S (2 ^ p)) = d := fun p hp hb => by have := ly_pcDf S hS p hp hb; omega
    have hco : ly_co k m (d + 1) S = ly_mn (fun p => S.testBit p) (fun p => ly_J k (ly_co k m d (ly_df S (2 ^ p))) (ly_pr k m (ly_df S (2 ^ p)) p)) 6 := rfl
    obtain ⟨p0, hp0, hb0⟩ := ly_some hS (fun e => by rw [(ly_pc0 S hS).mpr e] at hd; omega)
    have h1 : ly_co k m (d + 1) S ≤ 36 * (d + 1) := by
      have a := ly_mnLe (g := fun p => S.testBit p) (v := fun p => ly_J k (ly_co k m d (ly_df S (2 ^ p))) (ly_pr k m (ly_df S (2 ^ p)) p)) 6 p0 hp0 hb0
      have b := ly_JB (k := k) (ih (ly_df S (2 ^ p0)) (ly_dfL hS) (sub p0 hp0 hb0)).1 (ly_prB k m (ly_df S (2 ^ p0)) p0)
      rw [hco]
      refine Nat.le_trans a (Nat.le_trans b ?_)
      omega
    have val : ∀ p, p < 6 → S.testBit p = true → ∀ o', o' ∈ ly_er d (ly_df S (2 ^ p)) → ly_run k m 0 0 (o' ++ [p]) = ly_J k (ly_run k m 0 0 o') (ly_pr k m (ly_df S (2 ^ p)) p) := by
      intro p hp hb o' ho'
      rw [ly_runA, ly_erK d _ (ly_dfL hS) (sub p hp hb) o' ho']
    refine ⟨h1, ?_, ?_⟩
    · rcases ly_mnEx (g := fun p => S.testBit p) (v := fun p => ly_J k (ly_co k m d (ly_df S (2 ^ p))) (ly_pr k m (ly_df S (2 ^ p)) p)) 6 with h | ⟨p, hp, hb, e⟩
      · rw [← hco] at h; omega
      · obtain ⟨_, ⟨o', ho', e'⟩, _⟩ := ih (ly_df S (2 ^ p)) (ly_dfL hS) (sub p hp hb)
        refine ⟨o' ++ [p], ly_erC.mpr ⟨p, hp, hb, o', ho', rfl⟩, ?_⟩
        rw [val p hp hb o' ho', e', hco, e]
    · intro o ho
      obtain ⟨p, hp, hb, o', ho', e⟩ := ly_erC.mp ho
      rw [← e, val p hp hb o' ho', hco]
      exact Nat.le_trans (ly_mnLe (g := fun p => S.testBit p) 6 p hp hb) (ly_Jl ((ih (ly_df S (2 ^ p)) (ly_dfL hS) (sub p hp hb)).2.2 o' ho'))
theorem ly_ahE : ∀ d S, S < 64 → ly_pc S + d = 6 → ly_ah k m d S ≤ 36 * d ∧ (∃ o, o ∈ ly_en d S ∧ ly_run k m S 0 o = ly_ah k m d S) ∧ ∀ o, o ∈ ly_en d S → ly_ah k m d S ≤ ly_run k m S 0 o := by
  intro d
  induction d with
  | zero =>
    intro S hS hd
    refine ⟨Nat.le_refl _, ⟨[], List.mem_singleton.mpr rfl, rfl⟩, fun o ho => Nat.zero_le _⟩
  | succ d ih =>
    intro S hS hd
    have sub : ∀ p, p < 6 → S.testBit p = false → ly_pc (S ||| 2 ^ p) + d = 6 := fun p hp hb => by have := ly_pcOr S hS p hp hb; omega
    have sl : ∀ p, p < 6 → S ||| 2 ^ p < 64 := fun p hp => ly_orL hS (ly_pwL hp)
    have hah : ly_ah k m (d + 1) S = ly_mn (fun p => !S.testBit p) (fun p => ly_J k (ly_pr k m S p) (ly_ah k m d (S ||| 2 ^ p))) 6 := rfl
    obtain ⟨p0, hp0, hb0⟩ := ly_none S hS (fun e => by rw [(ly_pc6 S hS).mpr e] at hd; omega)
    have hb0' : (!S.testBit p0) = true := by rw [hb0]; rfl
    have h1 : ly_ah k m (d + 1) S ≤ 36 * (d + 1) := by
      have a := ly_mnLe (g := fun p => !S.testBit p) (v := fun p => ly_J k (ly_pr k m S p) (ly_ah k m d (S ||| 2 ^ p))) 6 p0 hp0 hb0'
      have b := ly_JB (k := k) (ly_prB k m S p0) (ih (S ||| 2 ^ p0) (sl p0 hp0) (sub p0 hp0 hb0)).1
      rw [hah]
      refine Nat.le_trans a (Nat.le_trans b ?_)
      omega
    refine ⟨h1, ?_, ?_⟩
    · rcases ly_mnEx (g := fun p => !S.testBit p) (v := fun p => ly_J k (ly_pr k m S p) (ly_ah k m d (S ||| 2 ^ p))) 6 with h | ⟨p, hp, hb, e⟩
      · rw [← hah] at h; omega
      · have hb' : S.testBit p = false := by cases z : S.testBit p; rfl; rw [z] at hb; cases hb
        obtain ⟨_, ⟨o', ho', e'⟩, _⟩ := ih (S ||| 2 ^ p) (sl p hp) (sub p hp hb')
        refine ⟨p :: o', ly_enC.mpr ⟨p, hp, hb', o', ho', rfl⟩, ?_⟩
        rw [ly_runC, e', hah, e]
    · intro o ho
      obtain ⟨p, hp, hb, o', ho', e⟩ := ly_enC.mp ho
      rw [← e, ly_runC, hah]
      exact Nat.le_trans (ly_mnLe (g := fun p => !S.testBit p) 6 p hp (by rw [hb]; rfl)) (ly_Jr ((ih (S ||| 2 ^ p) (sl p hp) (sub p hp hb)).2.2 o' ho'))
/-- the ways of the component count the best orders -/
theorem ly_wyC (L : Nat) (P : Nat → List Nat → Bool) (hP0 : P 0 [] = true)
    (hyes : ∀ S p o, S < 64 → p < 6 → S.testBit p = true → o ∈ ly_er (ly_pc (ly_df S (2 ^ p))) (ly_df S (2 ^ p)) → ly_ft k m L S p = true → (P S (o ++ [p]) = true ↔ P (ly_df S (2 ^ p)) o = true))
    (hno : ∀ S p o, S < 64 → p < 6 → S.testBit p = true → o ∈ ly_er (ly_pc (ly_df S (2 ^ p))) (ly_df S (2 ^ p)) → ly_ft k m L S p = false → ¬ P S (o ++ [p]) = true) :
    ∀ d S, S < 64 → ly_pc S = d → ly_wy k m L d S = (ly_er d S).countP (P S) := by
  intro d
  induction d with
  | zero =>
    intro S hS hd
    rw [(ly_pc0 S hS).mp hd]
    show 1 = [[]].countP (P 0)
    rw [List.countP_cons_of_pos hP0]; rfl
  | succ d ih =>
    intro S hS hd
    have sub : ∀ p, p < 6 → S.testBit p = true → ly_pc (ly_df S (2 ^ p)) = d := fun p hp hb => by have := ly_pcDf S hS p hp hb; omega
    show ly_s (fun p => if S.testBit p = true ∧ ly_ft k m L S p = true then ly_wy k m L d (ly_df S (2 ^ p)) else 0) 6 = (ly_fl (fun p => if S.testBit p = true then (ly_er d (ly_df S (2 ^ p))).map (fun o => o ++ [p]) else []) 6).countP (P S)
    rw [ly_flC]
    refine ly_sC 6 (fun p hp => ?_)
    by_cases hb : S.testBit p = true
    · rw [if_pos hb, List.countP_map]
      cases hf : ly_ft k m L S p
      · rw [if_neg (fun z => by cases z.2)]
        refine (List.countP_eq_zero.mpr ?_).symm
        intro o ho
        exact hno S p o hS hp hb (by rw [sub p hp hb]; exact ho) hf
      · rw [if_pos ⟨hb, rfl⟩, ih _ (ly_dfL hS) (sub p hp hb)]
        refine List.countP_congr ?_
        intro o ho
        exact (hyes S p o hS hp hb (by rw [sub p hp hb]; exact ho) hf).symm
    · rw [if_neg (fun z => hb z.1), if_neg hb]; rfl
theorem ly_COm {S : Nat} (hS : S < 64) {o : List Nat} (ho : o ∈ ly_er (ly_pc S) S) : ly_CO k m S ≤ ly_run k m 0 0 o := (ly_coE (ly_pc S) S hS rfl).2.2 o ho
theorem ly_wyS (hk : ¬ k < 3) (L : Nat) : ly_WY k m L 63 = (ly_er 6 63).countP (fun o => decide (ly_run k m 0 0 o = ly_CO k m 63)) := by
  have h6 : ly_pc 63 = 6 := (ly_pc6 63 (by decide)).mpr rfl
  have hJ : ∀ a b, ly_J k a b = a + b := fun a b => by unfold ly_J; rw [if_neg hk]
  have h := ly_wyC (k := k) (m := m) L (fun S o => decide (ly_run k m 0 0 o = ly_CO k m S)) (decide_eq_true (ly_CO0 k m).symm) ?_ ?_ 6 63 (by decide) h6
  · unfold ly_WY; rw [h6]; exact h
  · intro S p o hS hp hb ho hf
    unfold ly_ft at hf
    rw [if_neg hk, decide_eq_true_eq] at hf
    rw [decide_eq_true_eq, decide_eq_true_eq, ly_runA, ly_erK _ _ (ly_dfL hS) rfl o ho, hJ]
    omega
  · intro S p o hS hp hb ho hf
    unfold ly_ft at hf
    rw [if_neg hk, decide_eq_false_iff_not] at hf
    rw [decide_eq_true_eq, ly_runA, ly_erK _ _ (ly_dfL hS) rfl o ho, hJ]
    have h1 := ly_COm (k := k) (m := m) (ly_dfL hS) ho
    have h0 : S ≠ 0 := fun e => by rw [e] at hb; simp at hb
    have h2 := ly_mnLe (g := fun p => S.testBit p) (v := ly_vC k m S) 6 p hp hb
    rw [← ly_COe k m hS h0] at h2
    unfold ly_vC at h2
    rw [hJ] at h2
    omega
theorem ly_wyM (hk : k < 3) (L : Nat) : ly_WY k m L 63 = (ly_er 6 63).countP (fun o => decide (ly_run k m 0 0 o ≤ L)) := by
  have h6 : ly_pc 63 = 6 := (ly_pc6 63 (by decide)).mpr rfl
  have hJ : ∀ a b, ly_J k a b = if a ≤ b then b else a := fun a b => by unfold ly_J; rw [if_pos hk]
  have h := ly_wyC (k := k) (m := m) L (fun S o => decide (ly_run k m 0 0 o ≤ L)) (decide_eq_true (Nat.zero_le _)) ?_ ?_ 6 63 (by decide) h6
  · unfold ly_WY; rw [h6]; exact h
  · intro S p o hS hp hb ho hf
    unfold ly_ft at hf
    rw [if_pos hk, decide_eq_true_eq] at hf
    rw [decide_eq_true_eq, decide_eq_true_eq, ly_runA, ly_erK _ _ (ly_dfL hS) rfl o ho, hJ]
    split <;> omega
  · intro S p o hS hp hb ho hf
    unfold ly_ft at hf
    rw [if_pos hk, decide_eq_false_iff_not] at hf
    rw [decide_eq_true_eq, ly_runA, ly_erK _ _ (ly_dfL hS) rfl o ho, hJ]
    split <;> omega
end
end
section
/-! least, count and first over the numbers of the orders -/
theorem ly_lmE (f : Nat → Nat) : ∀ j, (∀ n, n < j → ly_lm f j ≤ f n) ∧ (ly_lm f j = 1000 ∨ ∃ n, n < j ∧ f n = ly_lm f j) := by
  intro j
  induction j with
  | zero => exact ⟨fun n hn => absurd hn (by omega), Or.inl rfl⟩
  | succ j ih =>
    obtain ⟨h1, h2⟩ := ih
    have e : ly_lm f (j + 1) = if ly_lm f j ≤ f j then ly_lm f j else f j := rfl
    by_cases z : ly_lm f j ≤ f j
    · rw [if_pos z] at e
      rw [e]
      refine ⟨fun n hn => ?_, ?_⟩
      · rcases Nat.lt_or_ge n j with y | y
        · exact h1 n y
        · have e2 : n = j := by omega
          rw [e2]; exact z
      · rcases h2 with h | ⟨n, hn, h⟩
        · exact Or.inl h
        · exact Or.inr ⟨n, by omega, h⟩
    · rw [if_neg z] at e
      rw [e]
      refine ⟨fun n hn => ?_, Or.inr ⟨j, by omega, rfl⟩⟩
      rcases Nat.lt_or_ge n j with y | y
      · have := h1 n y; omega
      · have e2 : n = j := by omega
        rw [e2]; exact Nat.le_refl _
theorem ly_ctE (f : Nat → Nat) : ∀ j, ly_ct f j = (List.range j).countP (fun n => decide (f n = ly_lm f j)) := by
  intro j
  induction j with
  | zero => rfl
  | succ j ih =>
    have h1 := (ly_lmE f j).1
    have e : ly_lm f (j + 1) = if ly_lm f j ≤ f j then ly_lm f j else f j := rfl
    have e3 : ly_ct f (j + 1) = if ly_lm f j ≤ f j then (if f j = ly_lm f j then ly_ct f j + 1 else ly_ct f j) else 1 := rfl
    rw [List.range_succ, List.countP_append]
    by_cases z : ly_lm f j ≤ f j
    · rw [if_pos z] at e e3
      rw [e, e3, ← ih]
      by_cases y : f j = ly_lm f j
      · rw [if_pos y, List.countP_cons_of_pos (p := fun n => decide (f n = ly_lm f j)) (a := j) (decide_eq_true y)]; rfl
      · rw [if_neg y, List.countP_cons_of_neg (p := fun n => decide (f n = ly_lm f j)) (a := j) (fun w => y (of_decide_eq_true w))]; rfl
    · rw [if_neg z] at e e3
      rw [e, e3, List.countP_cons_of_pos (p := fun n => decide (f n = f j)) (a := j) (decide_eq_true rfl)]
      rw [List.countP_eq_zero.mpr ?_]; rfl
      intro n hn
      have := h1 n (List.mem_range.mp hn)
      rw [decide_eq_true_eq]
      omega
theorem ly_ffE (f : Nat → Nat) (hf : ∀ n, f n < 1000) : ∀ j, 1 ≤ j → ly_ff f j < j ∧ f (ly_ff f j) = ly_lm f j ∧ ∀ n, n < ly_ff f j → f n ≠ ly_lm f j := by
  intro j
  induction j with
  | zero => intro h; exact absurd h (by omega)
  | succ j ih =>
    intro _
    have h1 := (ly_lmE f j).1
    have e : ly_lm f (j + 1) = if ly_lm f j ≤ f j then ly_lm f j else f j := rfl
    have e3 : ly_ff f (j + 1) = if ly_lm f j ≤ f j then ly_ff f j else j := rfl
    by_cases z : ly_lm f j ≤ f j
    · rw [if_pos z] at e e3
      have hj : 1 ≤ j := by
        rcases Nat.eq_zero_or_pos j with y | y
        · subst y
          have : ly_lm f 0 = 1000 := rfl
          have := hf 0
          omega
        · exact y
      obtain ⟨a, b, c⟩ := ih hj
      rw [e, e3]
      exact ⟨by omega, b, c⟩
    · rw [if_neg z] at e e3
      rw [e, e3]
      refine ⟨by omega, rfl, fun n hn => ?_⟩
      have := h1 n hn
      omega
section
variable {k : Nat} {m : Nat → Nat} {f : Nat → Nat}
/-- f is what kind k costs over the orders -/
def ly_Fk (k : Nat) (m f : Nat → Nat) : Prop := (∀ n, f n < 1000) ∧ ∀ n, n < 720 → f n = ly_run k m 0 0 (ly_ol n)
theorem ly_lmS (hf : ∀ n, f n < 1000) : ∃ n, n < 720 ∧ f n = ly_lm f 720 := by
  rcases (ly_lmE f 720).2 with h | h
  · have := (ly_lmE f 720).1 0 (by decide)
    have := hf 0
    omega
  · exact h
theorem ly_COl (hf : ly_Fk k m f) : ly_CO k m 63 = ly_lm f 720 := by
  have h6 : ly_pc 63 = 6 := (ly_pc6 63 (by decide)).mpr rfl
  obtain ⟨_, ⟨o, ho, e⟩, hmin⟩ := ly_coE (k := k) (m := m) 6 63 (by decide) h6
  have eC : ly_CO k m 63 = ly_co k m 6 63 := by unfold ly_CO; rw [h6]
  obtain ⟨n, hn, en⟩ := ly_lmS hf.1
  obtain ⟨n', hn', en'⟩ := (ly_enR o).mp (ly_enP.mem_iff.mp ho)
  rw [eC]
  apply Nat.le_antisymm
  · rw [← en, hf.2 n hn]
    exact hmin _ (ly_enP.mem_iff.mpr ((ly_enR _).mpr ⟨n, hn, rfl⟩))
  · rw [← e, ← en', ← hf.2 n' hn']
    exact (ly_lmE f 720).1 n' hn'
theorem ly_AHl (hf : ly_Fk k m f) : ly_AH k m 0 = ly_lm f 720 := by
  have h0 : ly_pc 0 = 0 := (ly_pc0 0 (by decide)).mpr rfl
  obtain ⟨_, ⟨o, ho, e⟩, hmin⟩ := ly_ahE (k := k) (m := m) 6 0 (by decide) (by rw [h0])
  have eC : ly_AH k m 0 = ly_ah k m 6 0 := by unfold ly_AH; rw [h0]
  obtain ⟨n, hn, en⟩ := ly_lmS hf.1
  obtain ⟨n', hn', en'⟩ := (ly_enR o).mp ho
  rw [eC]
  apply Nat.le_antisymm
  · rw [← en, hf.2 n hn]
    exact hmin _ ((ly_enR _).mpr ⟨n, hn, rfl⟩)
  · rw [← e, ← en', ← hf.2 n' hn']
    exact (ly_lmE f 720).1 n' hn'
theorem ly_WYl (hf : ly_Fk k m f) : ly_WY k m (ly_CO k m 63) 63 = ly_ct f 720 := by
  have h6 : ly_pc 63 = 6 := (ly_pc6 63 (by decide)).mpr rfl
  have h1 : ly_WY k m (ly_CO k m 63) 63 = (ly_er 6 63).countP (fun o => decide (ly_run k m 0 0 o = ly_CO k m 63)) := by
    by_cases hk : k < 3
    · rw [ly_wyM hk]
      refine List.countP_congr (fun o ho => ?_)
      rw [decide_eq_true_eq, decide_eq_true_eq]
      have := ly_COm (k := k) (m := m) (S := 63) (by decide) (o := o) (by rw [h6]; exact ho)
      omega
    · exact ly_wyS hk _
  rw [h1, ly_enP.countP_eq, ← ly_enO, List.countP_map, ly_ctE, ly_COl hf]
  refine List.countP_congr (fun n hn => ?_)
  show decide (ly_run k m 0 0 (ly_ol n) = ly_lm f 720) = true ↔ _
  rw [← hf.2 n (List.mem_range.mp hn)]
theorem ly_AHd {d S : Nat} (h : ly_pc S + d = 6) : ly_AH k m S = ly_ah k m d S := by
  unfold ly_AH
  rw [show 6 - ly_pc S = d from by omega]
/-- one step of the search for the first best order -/
theorem ly_gr {d S s p L : Nat} {o' : List Nat} (hS : S < 64) (hd : ly_pc S + (d + 1) = 6) (hL : ly_AH k m 0 = L) (hmin : ∀ o, o ∈ ly_en (d + 1) S → L ≤ ly_J k s (ly_run k m S 0 o))
    (hf : (ly_en (d + 1) S).find? (fun o => decide (ly_J k s (ly_run k m S 0 o) = L)) = some (p :: o')) :
    (p < 6 ∧ ly_Q k m S s p ∧ ∀ q, q < p → ¬ ly_Q k m S s q) ∧ (ly_en d (S ||| 2 ^ p)).find? (fun o => decide (ly_J k (ly_J k s (ly_pr k m S p)) (ly_run k m (S ||| 2 ^ p) 0 o) = L)) = some o' ∧ ∀ o, o ∈ ly_en d (S ||| 2 ^ p) → L ≤ ly_J k (ly_J k s (ly_pr k m S p)) (ly_run k m (S ||| 2 ^ p) 0 o) := by
  have comp : ∀ q, ((fun o => decide (ly_J k s (ly_run k m S 0 o) = L)) ∘ (fun o => q :: o)) = (fun o => decide (ly_J k (ly_J k s (ly_pr k m S q)) (ly_run k m (S ||| 2 ^ q) 0 o) = L)) := by
    intro q
    funext o
    show decide (ly_J k s (ly_run k m S 0 (q :: o)) = L) = _
    rw [ly_runC, ← ly_Ja]
  obtain ⟨p1, hp1, h1, h2⟩ := ly_flF 6 hf
  cases hb : S.testBit p1 with
  | true => rw [if_pos hb] at h1; cases h1
  | false =>
    rw [if_neg (by rw [hb]; decide), List.find?_map, comp, Option.map_eq_some_iff] at h1
    obtain ⟨o2, h3, h4⟩ := h1
    obtain ⟨e1, e2⟩ := List.cons.inj h4
    subst e1
    subst e2
    have hS1 : S ||| 2 ^ p1 < 64 := ly_orL hS (ly_pwL hp1)
    have hd1 : ly_pc (S ||| 2 ^ p1) + d = 6 := by have := ly_pcOr S hS p1 hp1 hb; omega
    have hmin1 : ∀ o, o ∈ ly_en d (S ||| 2 ^ p1) → L ≤ ly_J k (ly_J k s (ly_pr k m S p1)) (ly_run k m (S ||| 2 ^ p1) 0 o) := by
      intro o ho
      have := hmin (p1 :: o) (ly_enC.mpr ⟨p1, hp1, hb, o, ho, rfl⟩)
      rw [ly_runC, ← ly_Ja] at this
      exact this
    refine ⟨⟨hp1, ⟨hb, ?_⟩, ?_⟩, h3, hmin1⟩
    · rw [hL, ly_AHd hd1]
      obtain ⟨_, ⟨o, ho, e⟩, hm⟩ := ly_ahE (k := k) (m := m) d _ hS1 hd1
      have hw := List.find?_some h3
      have hv := of_decide_eq_true hw
      apply Nat.le_antisymm
      · have := ly_Jr (k := k) (a := ly_J k s (ly_pr k m S p1)) (hm _ (List.mem_of_find?_eq_some h3))
        rw [hv] at this
        exact this
      · rw [← e]; exact hmin1 o ho
    · intro q hq hQ
      have hq6 : q < 6 := by omega
      have hSq : S ||| 2 ^ q < 64 := ly_orL hS (ly_pwL hq6)
      have hdq : ly_pc (S ||| 2 ^ q) + d = 6 := by have := ly_pcOr S hS q hq6 hQ.1; omega
      have hn := h2 q hq
      rw [if_neg (by rw [hQ.1]; decide), List.find?_map, comp, Option.map_eq_none_iff, List.find?_eq_none] at hn
      obtain ⟨_, ⟨o, ho, e⟩, _⟩ := ly_ahE (k := k) (m := m) d _ hSq hdq
      refine hn o ho (decide_eq_true ?_)
      have := hQ.2
      rw [hL, ly_AHd hdq, ← e] at this
      exact this
theorem ly_dr {n i : Nat} (hi : i < 6) : (ly_ol n).drop i = ly_ro n i :: (ly_ol n).drop (i + 1) := by
  have h : i = 0 ∨ i = 1 ∨ i = 2 ∨ i = 3 ∨ i = 4 ∨ i = 5 := by omega
  rcases h with e | e | e | e | e | e <;> subst e <;> rfl
theorem ly_first (hf : ly_Fk k m f) : ∀ i, i < 6 → ly_Q k m (ly_pm (ly_ro (ly_ff f 720)) i) (ly_rn k m (ly_ro (ly_ff f 720)) i) (ly_ro (ly_ff f 720) i) ∧ ∀ p, p < ly_ro (ly_ff f 720) i → ¬ ly_Q k m (ly_pm (ly_ro (ly_ff f 720)) i) (ly_rn k m (ly_ro (ly_ff f 720)) i) p := by
  obtain ⟨hF, eF, fF⟩ := ly_ffE f hf.1 720 (by decide)
  generalize ly_ff f 720 = F at hF eF fF
  have hL := ly_AHl hf
  have hr : ∀ j, j < 6 → ly_ro F j < 6 := fun j _ => ly_roL F j
  have hd := ly_roD hF
  have inv : ∀ i, i ≤ 6 → ((ly_en (6 - i) (ly_pm (ly_ro F) i)).find? (fun o => decide (ly_J k (ly_rn k m (ly_ro F) i) (ly_run k m (ly_pm (ly_ro F) i) 0 o) = ly_lm f 720)) = some ((ly_ol F).drop i) ∧ ∀ o, o ∈ ly_en (6 - i) (ly_pm (ly_ro F) i) → ly_lm f 720 ≤ ly_J k (ly_rn k m (ly_ro F) i) (ly_run k m (ly_pm (ly_ro F) i) 0 o)) ∧
      ∀ j, j < i → ly_Q k m (ly_pm (ly_ro F) j) (ly_rn k m (ly_ro F) j) (ly_ro F j) ∧ ∀ p, p < ly_ro F j → ¬ ly_Q k m (ly_pm (ly_ro F) j) (ly_rn k m (ly_ro F) j) p := by
    intro i
    induction i with
    | zero =>
      intro _
      refine ⟨⟨?_, ?_⟩, fun j hj => absurd hj (by omega)⟩
      · show (ly_en 6 0).find? (fun o => decide (ly_J k 0 (ly_run k m 0 0 o) = ly_lm f 720)) = some (ly_ol F)
        rw [← ly_enO, List.find?_map, Option.map_eq_some_iff]
        refine ⟨F, ?_, rfl⟩
        rw [List.find?_range_eq_some]
        refine ⟨?_, List.mem_range.mpr hF, ?_⟩
        · show decide (ly_J k 0 (ly_run k m 0 0 (ly_ol F)) = ly_lm f 720) = true
          rw [ly_J0, ← hf.2 F hF]; exact decide_eq_true eF
        · intro j hj
          show (!decide (ly_J k 0 (ly_run k m 0 0 (ly_ol j)) = ly_lm f 720)) = true
          rw [ly_J0, ← hf.2 j (by omega), decide_eq_false (fF j hj)]; rfl
      · intro o ho
        obtain ⟨n, hn, e⟩ := (ly_enR o).mp ho
        show _ ≤ ly_J k 0 (ly_run k m 0 0 o)
        rw [ly_J0, ← e, ← hf.2 n hn]
        exact (ly_lmE f 720).1 n hn
    | succ i ih =>
      intro hi
      obtain ⟨⟨h1, h2⟩, h3⟩ := ih (by omega)
      have hpm := ly_pmL (r := ly_ro F) i (fun j hj => hr j (by omega))
      have hpc := ly_pmP (r := ly_ro F) i (by omega) (fun j hj => hr j (by omega)) (fun a ha => hd a (by omega))
      rw [ly_dr (by omega), show 6 - i = (6 - (i + 1)) + 1 from by omega] at h1
      rw [show 6 - i = (6 - (i + 1)) + 1 from by omega] at h2
      obtain ⟨⟨g0, g1, g2⟩, g3, g4⟩ := ly_gr hpm (by rw [hpc]; omega) hL h2 h1
      refine ⟨⟨g3, g4⟩, ?_⟩
      intro j hj
      rcases Nat.lt_or_ge j i with z | z
      · exact h3 j z
      · have e : j = i := by omega
        subst e
        exact ⟨g1, g2⟩
  intro i hi
  exact (inv 6 (by decide)).2 i hi
end
/-! which number is which kind's cost -/
section
variable {m : Nat → Nat}
theorem ly_F0 : ly_Fk 0 m (ly_f m 0) := ⟨fun n => Nat.lt_of_le_of_lt (ly_fB m 0 n) (by decide), fun n hn => ly_nu0 (fun j _ => ly_roL n j) (ly_roD hn)⟩
theorem ly_F1 (hm : ∀ p, p < 6 → m p < 64) : ly_Fk 1 m (ly_f m 1) := ⟨fun n => Nat.lt_of_le_of_lt (ly_fB m 1 n) (by decide), fun n hn => ly_nu1 hm (fun j _ => ly_roL n j) (ly_roD hn)⟩
theorem ly_F3 : ly_Fk 3 m (ly_f m 3) := ⟨fun n => Nat.lt_of_le_of_lt (ly_fB m 3 n) (by decide), fun n hn => ly_nu3 (fun j _ => ly_roL n j) (ly_roD hn)⟩
theorem ly_F2 (hm : ∀ p, p < 6 → m p < 64) (hs : ly_Sy m) : ly_Fk 2 m (ly_f m 4) := ⟨fun n => Nat.lt_of_le_of_lt (ly_fB m 4 n) (by decide), fun n hn => ly_nu4 hm hs (fun j _ => ly_roL n j) (ly_roD hn)⟩
theorem ly_F4 (hm : ∀ p, p < 6 → m p < 64) (hs : ly_Sy m) : ly_Fk 4 m (ly_f m 5) := ⟨fun n => Nat.lt_of_le_of_lt (ly_fB m 5 n) (by decide), fun n hn => ly_nu5 hm hs (fun j _ => ly_roL n j) (ly_roD hn)⟩
/-! stretch -/
theorem ly_i2I {r : Nat → Nat} {i v f : Nat} : ∀ k, ly_i2 m r i v k ≤ f ↔ (v ≤ f ∧ ∀ j, j < k → (m (r j)).testBit (r i) = true → i - j ≤ f) := by
  intro k
  induction k with
  | zero => exact ⟨fun h => ⟨h, fun j hj => absurd hj (by omega)⟩, fun h => h.1⟩
  | succ k ih =>
    have e : ly_i2 m r i v (k + 1) = if (m (r k)).testBit (r i) = true then (if i - k ≤ ly_i2 m r i v k then ly_i2 m r i v k else i - k) else ly_i2 m r i v k := rfl
    have up : (∀ j, j < k + 1 → (m (r j)).testBit (r i) = true → i - j ≤ f) ↔ ((∀ j, j < k → (m (r j)).testBit (r i) = true → i - j ≤ f) ∧ ((m (r k)).testBit (r i) = true → i - k ≤ f)) := by
      constructor
      · intro h; exact ⟨fun j hj => h j (by omega), h k (by omega)⟩
      · rintro ⟨h, h2⟩ j hj
        rcases Nat.lt_or_ge j k with z | z
        · exact h j z
        · have e : j = k := by omega
          rw [e]; exact h2
    rw [up, ← and_assoc, ← ih, e]
    by_cases hb : (m (r k)).testBit (r i) = true
    · rw [if_pos hb]
      constructor
      · intro h
        by_cases z : i - k ≤ ly_i2 m r i v k
        · rw [if_pos z] at h; exact ⟨h, fun _ => by omega⟩
        · rw [if_neg z] at h; exact ⟨by omega, fun _ => h⟩
      · rintro ⟨h, h2⟩
        have := h2 hb
        split <;> omega
    · rw [if_neg hb]
      exact ⟨fun h => ⟨h, fun z => absurd z hb⟩, fun h => h.1⟩
theorem ly_n2I {r : Nat → Nat} {f : Nat} : ∀ n, ly_n2 m r n ≤ f ↔ ∀ i, i < n → ∀ j, j < i + 1 → (m (r j)).testBit (r i) = true → i - j ≤ f := by
  intro n
  induction n with
  | zero => exact ⟨fun _ i hi => absurd hi (by omega), fun _ => Nat.zero_le _⟩
  | succ n ih =>
    show ly_i2 m r n (ly_n2 m r n) (n + 1) ≤ f ↔ _
    rw [ly_i2I, ih]
    constructor
    · rintro ⟨h, h2⟩ i hi
      rcases Nat.lt_or_ge i n with z | z
      · exact h i z
      · have e : i = n := by omega
        rw [e]; exact h2
    · intro h
      exact ⟨fun i hi => h i (by omega), h n (by omega)⟩
theorem ly_GI (hs : ly_Sy m) (f : Nat) : ly_G m f ↔ ∃ n, n < 720 ∧ ly_f m 2 n ≤ f := by
  constructor
  · rintro ⟨r, h1, h2, h3⟩
    obtain ⟨n, hn, e⟩ := ly_has h1 h2
    refine ⟨n, hn, (ly_n2I 6).mpr ?_⟩
    intro i hi j hj hb
    rcases Nat.lt_or_ge f (i - j) with z | z
    · have hk := h3 i hi j (by omega)
      rw [e i hi, e j (by omega), hs.1 _ (h1 j (by omega)) _ (h1 i hi), hk] at hb
      cases hb
    · exact z
  · rintro ⟨n, hn, h⟩
    have h' := (ly_n2I 6).mp h
    refine ⟨ly_ro n, fun j _ => ly_roL n j, ly_roD hn, ?_⟩
    intro i hi j hj
    cases hb : (m (ly_ro n i)).testBit (ly_ro n j)
    · rfl
    · rw [hs.1 _ (ly_roL n i) _ (ly_roL n j)] at hb
      have := h' i hi j (by omega) hb
      omega
theorem ly_str (hs : ly_Sy m) {L : Nat} (h5 : L ≤ 5) (h1 : ∀ f, f < L → ¬ ly_G m f) (h2 : L < 5 → ly_G m L) : L = ly_lm (ly_f m 2) 720 := by
  obtain ⟨n0, hn0, e0⟩ := ly_lmS (f := ly_f m 2) (fun n => Nat.lt_of_le_of_lt (ly_fB m 2 n) (by decide))
  have hle := (ly_lmE (ly_f m 2) 720).1
  have hb : ly_f m 2 n0 ≤ 5 := ly_n2B m _ 6 (by decide)
  have hge : ¬ ly_lm (ly_f m 2) 720 < L := by
    intro z
    exact h1 _ z ((ly_GI hs _).mpr ⟨n0, hn0, by omega⟩)
  rcases Nat.lt_or_ge L 5 with z | z
  · obtain ⟨n, hn, h⟩ := (ly_GI hs L).mp (h2 z)
    have := hle n hn
    omega
  · omega
end
end
section
/-! the small methods of both sides -/
theorem lx_bad {post : Int32 → Prop} {u : SX} (x : Int32) (h1 : (¬ ∃ p, p < 6 ∧ x = nI p) → post 1) (h0 : (∃ p, p < 6 ∧ x = nI p) → post 0) : wpX_bad post u x := by
  obtain ⟨na, nc, nw, nh, np, nt⟩ := u
  by_cases h : ∃ p, p < 6 ∧ x = nI p
  · obtain ⟨p, hp, rfl⟩ := h
    exact br_f (nI_pos (by omega)) (br_t (nI_lt (b := 6) hp (by decide)) (h0 ⟨p, hp, rfl⟩))
  · refine br_c (fun _ => h1 h) (fun hn => br_f (fun h6 => ?_) (h1 h))
    obtain ⟨j, hj, rfl⟩ := nI_of hn
    exact h ⟨j, (nI_ltI hj (b := 6) (by decide)).mp h6, rfl⟩
theorem lz_isPair {post : Int32 → Prop} {v : SY} (x y : Int32) (h0 : (¬ ∃ p q, p < 6 ∧ q < 6 ∧ p ≠ q ∧ x = nI p ∧ y = nI q) → post 0) (h1 : (∃ p q, p < 6 ∧ q < 6 ∧ p ≠ q ∧ x = nI p ∧ y = nI q) → post 1) : wpY_isPair post v x y := by
  obtain ⟨fk, na, nl, nr, nn, ne, nc, nf⟩ := v
  by_cases h : ∃ p q, p < 6 ∧ q < 6 ∧ p ≠ q ∧ x = nI p ∧ y = nI q
  · obtain ⟨p, q, hp, hq, hn, rfl, rfl⟩ := h
    exact br_f (nI_pos (by omega)) (br_f (nI_nlt (b := p) (a := 5) (by omega) (by decide)) (br_f (nI_pos (by omega)) (br_f (nI_nlt (b := q) (a := 5) (by omega) (by decide))
      (pk_eq p q (fun e => absurd e hn) (fun _ => h1 ⟨p, q, hp, hq, hn, rfl, rfl⟩) rfl rfl (by omega) (by omega)))))
  · refine br_c (fun _ => h0 h) (fun a1 => br_c (fun _ => h0 h) (fun a2 => br_c (fun _ => h0 h) (fun a3 => br_c (fun _ => h0 h) (fun a4 => br_c (fun _ => h0 h) (fun a5 => absurd ?_ h)))))
    obtain ⟨p, hp, rfl⟩ := nI_of a1
    obtain ⟨q, hq, rfl⟩ := nI_of a3
    have b2 : ¬ 5 < p := fun z => a2 ((nI_ltI (a := 5) (by decide) hp).mpr z)
    have b4 : ¬ 5 < q := fun z => a4 ((nI_ltI (a := 5) (by decide) hq).mpr z)
    exact ⟨p, q, by omega, by omega, fun e => a5 (by rw [e]), rfl, rfl⟩
def ly_ta (na : Nat → Int32) (m : Nat → Nat) (p q : Nat) : Nat → Int32 := upd (upd na p (nI (m p ^^^ 2 ^ q))) q (nI (m q ^^^ 2 ^ p))
def ly_tm (m : Nat → Nat) (p q : Nat) : Nat → Nat := fun j => if j = q then m q ^^^ 2 ^ p else if j = p then m p ^^^ 2 ^ q else m j
section
variable {na : Nat → Int32} {m : Nat → Nat} {p q : Nat}
theorem ly_taN (N : ly_N na m) (hp : p < 6) (hq : q < 6) : ly_N (ly_ta na m p q) (ly_tm m p q) := by
  intro j hj
  unfold ly_ta ly_tm
  by_cases z : j = q
  · rw [if_pos z, z, pk_us]; exact ⟨rfl, ly_xorL (N q hq).2 (ly_pwL hp)⟩
  · rw [if_neg z, pk_un z]
    by_cases y : j = p
    · rw [if_pos y, y, pk_us]; exact ⟨rfl, ly_xorL (N p hp).2 (ly_pwL hq)⟩
    · rw [if_neg y, pk_un y]; exact N j hj
theorem ly_tmS (hS : ly_Sy m) (hp : p < 6) (hq : q < 6) (hn : p ≠ q) : ly_Sy (ly_tm m p q) := by
  have hb : ∀ a, a < 6 → ∀ b, b < 6 → (ly_tm m p q a).testBit b = ((m a).testBit b ^^ (decide (a = p ∧ b = q) || decide (a = q ∧ b = p))) := by
    intro a _ b _
    unfold ly_tm
    by_cases z : a = q
    · subst z
      rw [if_pos rfl, Nat.testBit_xor, ly_pwT]
      have e1 : ¬ a = p := fun e => hn e.symm
      by_cases y : p = b
      · subst y; simp [e1]
      · have y' : ¬ b = p := fun e => y e.symm
        simp [y, y', e1]
    · rw [if_neg z]
      by_cases y : a = p
      · subst y
        rw [if_pos rfl, Nat.testBit_xor, ly_pwT]
        by_cases w : q = b
        · subst w; simp
        · have w' : ¬ b = q := fun e => w e.symm
          simp [w, w', z]
      · rw [if_neg y]; simp [y, z]
  constructor
  · intro a ha b hb2
    rw [hb a ha b hb2, hb b hb2 a ha, hS.1 a ha b hb2]
    congr 1
    by_cases c1 : a = p <;> by_cases c2 : b = q <;> by_cases c3 : a = q <;> by_cases c4 : b = p <;> simp [c1, c2, c3, c4]
  · intro a ha
    rw [hb a ha a ha, hS.2 a ha]
    by_cases c1 : a = p
    · subst c1; simp [hn]
    · simp [c1]
theorem ly_tmT (hn : p ≠ q) : ly_tm (ly_tm m p q) p q = m := by
  funext j
  unfold ly_tm
  by_cases z : j = q
  · subst z
    rw [if_pos rfl, if_pos rfl, Nat.xor_assoc, Nat.xor_self, Nat.xor_zero]
  · rw [if_neg z]
    by_cases y : j = p
    · subst y
      rw [if_pos rfl, if_neg z, if_pos rfl, Nat.xor_assoc, Nat.xor_self, Nat.xor_zero]
    · rw [if_neg y, if_neg z, if_neg y]
theorem lx_turn {post : SX → Prop} {nc nw nh np nt : Nat → Int32} (N : ly_N na m) (hp : p < 6) (hq : q < 6) (hn : p ≠ q) (h : post (ly_ta na m p q, nc, nw, nh, np, nt)) : wpX_turn post (na, nc, nw, nh, np, nt) (nI p) (nI q) := by
  have e1 : upd na p (na p ^^^ ((1 : Int32) <<< (nI q &&& 31))) = upd na p (nI (m p ^^^ 2 ^ q)) := by rw [(N p hp).1, ly_shl q hq, nx_xor]
  refine ⟨ly_in6 hp, ly_in6 hp, nm_r (e' := upd na p (nI (m p ^^^ 2 ^ q))) (by rw [ly_cl (i := p) (by omega), e1]) ⟨ly_in6 hq, ly_in6 hq, nm_r (e' := ly_ta na m p q) ?_ h⟩⟩
  rw [ly_cl (i := q) (by omega), pk_un (fun e => hn e.symm), (N q hq).1, ly_shl p hp, nx_xor]; rfl
theorem lz_exch {post : SY → Prop} {fk : Int32} {nl nr nn ne nc nf : Nat → Int32} (N : ly_N na m) (hp : p < 6) (hq : q < 6) (hn : p ≠ q) (h : post (fk, ly_ta na m p q, nl, nr, nn, ne, nc, nf)) : wpY_exchange post (fk, na, nl, nr, nn, ne, nc, nf) (nI p) (nI q) := by
  have e1 : upd na p (na p ^^^ ((1 : Int32) <<< (nI q &&& 31))) = upd na p (nI (m p ^^^ 2 ^ q)) := by rw [(N p hp).1, ly_shl q hq, nx_xor]
  refine ⟨ly_in6 hp, ly_in6 hp, nm_r (e' := upd na p (nI (m p ^^^ 2 ^ q))) (by rw [ly_cl (i := p) (by omega), e1]) ⟨ly_in6 hq, ly_in6 hq, nm_r (e' := ly_ta na m p q) ?_ h⟩⟩
  rw [ly_cl (i := q) (by omega), pk_un (fun e => hn e.symm), (N q hq).1, ly_shl p hp, nx_xor]; rfl
def ly_lg (m : Nat → Nat) (p : Nat) : Nat := ly_pc (m p)
def ly_ln (m : Nat → Nat) : Nat := ly_s (ly_lg m) 6 / 2
theorem ly_lgB (m : Nat → Nat) : ly_s (ly_lg m) 6 ≤ 6 * 6 := ly_sL (fun _ => ly_pcL _) 6
theorem lx_lines {post : Int32 → Prop} {nc nw nh np nt : Nat → Int32} (N : ly_N na m) (h : post (nI (ly_ln m))) : wpX_lines post (na, nc, nw, nh, np, nt) := by
  refine ly_lp (W := fun n i => wX_lines_4 post na nc nw nh np nt n (nI (ly_s (ly_lg m) i)) (nI i)) 6 0 (by decide) ?_ ?_
  · intro n
    have hb := ly_lgB m
    have e : nI (ly_s (ly_lg m) 6) / 2 = nI (ly_ln m) := pk_div (d := 2) (by omega) (by decide) (by decide)
    refine br_t ly_66 ⟨by decide, ?_⟩
    rw [e]; exact h
  · intro n i _ hi ih
    refine br_f (ly_6 hi) ⟨ly_in6 hi, ?_⟩
    rw [ly_cl (i := i) (by omega), (N i hi).1]
    exact lx_size (N i hi).2 (nm_r (nI_add _ _) (nm_r (nI_1 i) ih))
theorem lz_lines {post : Int32 → Prop} {fk : Int32} {nl nr nn ne nc nf : Nat → Int32} (N : ly_N na m) (h : post (nI (ly_ln m))) : wpY_lines post (fk, na, nl, nr, nn, ne, nc, nf) := by
  refine ly_lp (W := fun n i => wY_lines_4 post fk na nl nr nn ne nc nf n (nI (ly_s (ly_lg m) i)) (nI i)) 6 0 (by decide) ?_ ?_
  · intro n
    have hb := ly_lgB m
    have e : nI (ly_s (ly_lg m) 6) / 2 = nI (ly_ln m) := pk_div (d := 2) (by omega) (by decide) (by decide)
    refine br_t ly_66 ⟨by decide, ?_⟩
    rw [e]; exact h
  · intro n i _ hi ih
    refine br_f (ly_6 hi) ⟨ly_in6 hi, ?_⟩
    rw [ly_cl (i := i) (by omega), (N i hi).1]
    exact lz_bits (N i hi).2 (nm_r (nI_add _ _) (nm_r (nI_1 i) ih))
def ly_za (na : Nat → Int32) : Nat → Nat → Int32
  | 0 => na
  | i + 1 => upd (ly_za na i) i 0
theorem ly_zaT (na : Nat → Int32) : ∀ i p, p < i → ly_za na i p = 0 := by
  intro i
  induction i with
  | zero => intro p hp; exact absurd hp (by omega)
  | succ i ih =>
    intro p hp
    show upd (ly_za na i) i 0 p = 0
    by_cases z : p = i
    · rw [z, pk_us]
    · rw [pk_un z]; exact ih p (by omega)
theorem lx_clear {post : Int32 → SX → Prop} {nc nw nh np nt : Nat → Int32} (N : ly_N na m) (h : post (nI (ly_ln m)) (ly_za na 6, nc, nw, nh, np, nt)) : wpX_clear post (na, nc, nw, nh, np, nt) := by
  unfold wpX_clear
  refine lx_lines N ?_
  exact ly_lp (W := fun n i => wX_clear_7 post (nI (ly_ln m)) n (nI i) (ly_za na i) nc nw nh np nt) 6 0 (by decide) (fun n => br_t ly_66 h)
    (fun n i _ hi ih => br_f (ly_6 hi) ⟨ly_in6 hi, nm_r (e' := ly_za na (i + 1)) (by rw [ly_cl (i := i) (by omega)]; rfl) (nm_r (nI_1 i) ih)⟩)
theorem lz_clear {post : Int32 → SY → Prop} {fk : Int32} {nl nr nn ne nc nf : Nat → Int32} (N : ly_N na m) (h : post (nI (ly_ln m)) (0, ly_za na 6, nl, nr, nn, ne, nc, nf)) : wpY_clear post (fk, na, nl, nr, nn, ne, nc, nf) := by
  unfold wpY_clear
  refine lz_lines N ?_
  exact ly_lp (W := fun n i => wY_clear_7 post (nI (ly_ln m)) fk n (nI i) (ly_za na i) nl nr nn ne nc nf) 6 0 (by decide) (fun n => br_t ly_66 h)
    (fun n i _ hi ih => br_f (ly_6 hi) ⟨ly_in6 hi, nm_r (e' := ly_za na (i + 1)) (by rw [ly_cl (i := i) (by omega)]; rfl) (nm_r (nI_1 i) ih)⟩)
end
end
section
/-! what is owed -/
/-- both sides hold the same lines: symmetric, none from a point to itself; what the reference knows is true of them -/
def i_Rel (_ : Nat) (u : SX) (v : SY) : Prop := ∃ (m : Nat → Nat) (na nc nw nh np nt : Nat → Int32) (fk : Int32) (nl nr nn ne nk nf : Nat → Int32), u = (na, nc, nw, nh, np, nt) ∧ v = (fk, na, nl, nr, nn, ne, nk, nf) ∧ ly_N na m ∧ ly_Sy m ∧ (fk ≠ 0 → ly_Kn m ne nk nf)
theorem iy_mk {k : Nat} {m : Nat → Nat} {na nc nw nh np nt : Nat → Int32} {fk : Int32} {nl nr nn ne nk nf : Nat → Int32} (N : ly_N na m) (S : ly_Sy m) (K : fk ≠ 0 → ly_Kn m ne nk nf) : i_Rel k (na, nc, nw, nh, np, nt) (fk, na, nl, nr, nn, ne, nk, nf) :=
  ⟨m, na, nc, nw, nh, np, nt, fk, nl, nr, nn, ne, nk, nf, rfl, rfl, N, S, K⟩
theorem i_up {k : Nat} {u : SX} {v : SY} (h : i_Rel k u v) : i_Rel (k + 3) u v := h
theorem i_vc0 : wpX_init (fun u => wpY_init (fun v => i_Rel 0 u v)) :=
  iy_mk (k := 0) (m := fun _ => 0) (fun _ _ => ⟨rfl, show (0 : Nat) < 64 by decide⟩) ⟨fun p _ q _ => by simp, fun p _ => by simp⟩ (fun z => absurd rfl z)
theorem i_vc_line {k : Nat} {u : SX} {v : SY} (I : i_Rel k u v) (hk : k + 3 ≤ 1536) (v1 : Int32) (v2 : Int32) : wpX_line (fun r u' => wpY_line (fun r' v' => r' = r ∧ i_Rel (k + 3) u' v') v v1 v2) u v1 v2 := by
  obtain ⟨m, na, nc, nw, nh, np, nt, fk, nl, nr, nn, ne, nk, nf, rfl, rfl, N, S, K⟩ := I
  by_cases h : ∃ p q, p < 6 ∧ q < 6 ∧ p ≠ q ∧ v1 = nI p ∧ v2 = nI q
  · have h' := h
    obtain ⟨p, q, hp, hq, hn, rfl, rfl⟩ := h
    unfold wpX_line
    refine lx_bad _ (fun z => absurd ⟨p, hp, rfl⟩ z) (fun _ => br_t rfl (lx_bad _ (fun z => absurd ⟨q, hq, rfl⟩ z) (fun _ => br_t rfl (pk_eq p q (fun e => absurd e hn) (fun _ => ?_) rfl rfl (by omega) (by omega)))))
    refine lx_turn N hp hq hn ⟨ly_in6 hp, ?_⟩
    unfold wpY_line
    refine lz_isPair _ _ (fun z => absurd h' z) (fun _ => br_f (by decide) ?_)
    refine lz_exch N hp hq hn ⟨ly_in6 hp, rfl, ?_⟩
    exact iy_mk (ly_taN N hp hq) (ly_tmS S hp hq hn) (fun z => absurd rfl z)
  · have fin : wpY_line (fun r' v' => r' = -1 ∧ i_Rel (k + 3) (na, nc, nw, nh, np, nt) v') (fk, na, nl, nr, nn, ne, nk, nf) v1 v2 := by
      unfold wpY_line
      exact lz_isPair _ _ (fun _ => br_t rfl ⟨rfl, iy_mk N S K⟩) (fun z => absurd z h)
    unfold wpX_line
    refine lx_bad _ (fun z => br_f (by decide) fin) (fun z1 => br_t rfl (lx_bad _ (fun z => br_f (by decide) fin) (fun z2 => br_t rfl (br_c (fun _ => fin) (fun ne => absurd ?_ h)))))
    obtain ⟨p, hp, rfl⟩ := z1
    obtain ⟨q, hq, rfl⟩ := z2
    exact ⟨p, q, hp, hq, fun e => ne (by rw [e]), rfl, rfl⟩
theorem i_vc_clear {k : Nat} {u : SX} {v : SY} (I : i_Rel k u v) (hk : k + 3 ≤ 1536) : wpX_clear (fun r u' => wpY_clear (fun r' v' => r' = r ∧ i_Rel (k + 3) u' v') v) u := by
  obtain ⟨m, na, nc, nw, nh, np, nt, fk, nl, nr, nn, ne, nk, nf, rfl, rfl, N, S, K⟩ := I
  refine lx_clear N (lz_clear N ⟨rfl, ?_⟩)
  exact iy_mk (m := fun _ => 0) (fun p hp => ⟨ly_zaT na 6 p hp, show (0 : Nat) < 64 by decide⟩) ⟨fun p _ q _ => by simp, fun p _ => by simp⟩ (fun z => absurd rfl z)
theorem i_vc_lines {k : Nat} {u : SX} {v : SY} (I : i_Rel k u v) (hk : k + 3 ≤ 1536) : wpX_lines (fun r => wpY_lines (fun r' => r' = r ∧ i_Rel (k + 3) u v) v) u := by
  obtain ⟨m, na, nc, nw, nh, np, nt, fk, nl, nr, nn, ne, nk, nf, rfl, rfl, N, S, K⟩ := I
  exact lx_lines N (lz_lines N ⟨rfl, iy_mk N S K⟩)
theorem i_vc_cutWidth {k : Nat} {u : SX} {v : SY} (I : i_Rel k u v) (hk : k + 3 ≤ 1536) : wpX_cutWidth (fun r u' => wpY_cutWidth (fun r' v' => r' = r ∧ i_Rel (k + 3) u' v') v) u := by
  obtain ⟨m, na, nc, nw, nh, np, nt, fk, nl, nr, nn, ne, nk, nf, rfl, rfl, N, S, K⟩ := I
  unfold wpX_cutWidth
  refine lx_leastOf (k := 0) N (by decide) (fun C => ?_)
  unfold wpY_cutWidth
  refine lz_least (k := 0) N (by decide) K (fun fk' nl' nr' nn' ne' nc' nf' h => ⟨?_, iy_mk N S (fun _ => h)⟩)
  rw [ly_COl ly_F0]
theorem i_vc_separation {k : Nat} {u : SX} {v : SY} (I : i_Rel k u v) (hk : k + 3 ≤ 1536) : wpX_separation (fun r u' => wpY_separation (fun r' v' => r' = r ∧ i_Rel (k + 3) u' v') v) u := by
  obtain ⟨m, na, nc, nw, nh, np, nt, fk, nl, nr, nn, ne, nk, nf, rfl, rfl, N, S, K⟩ := I
  unfold wpX_separation
  refine lx_leastOf (k := 1) N (by decide) (fun C => ?_)
  unfold wpY_separation
  refine lz_least (k := 1) N (by decide) K (fun fk' nl' nr' nn' ne' nc' nf' h => ⟨?_, iy_mk N S (fun _ => h)⟩)
  rw [ly_COl (ly_F1 (fun p hp => (N p hp).2))]
theorem i_vc_stretch {k : Nat} {u : SX} {v : SY} (I : i_Rel k u v) (hk : k + 3 ≤ 1536) : wpX_stretch (fun r u' => wpY_stretch (fun r' v' => r' = r ∧ i_Rel (k + 3) u' v') v) u := by
  obtain ⟨m, na, nc, nw, nh, np, nt, fk, nl, nr, nn, ne, nk, nf, rfl, rfl, N, S, K⟩ := I
  refine lx_stretch N (fun L np' nt' h5 h1 h2 => ?_)
  unfold wpY_stretch
  refine lz_least (k := 2) N (by decide) K (fun fk' nl' nr' nn' ne' nc' nf' h => ⟨?_, iy_mk N S (fun _ => h)⟩)
  rw [ly_str S h5 h1 h2]
theorem i_vc_length {k : Nat} {u : SX} {v : SY} (I : i_Rel k u v) (hk : k + 3 ≤ 1536) : wpX_length (fun r u' => wpY_length (fun r' v' => r' = r ∧ i_Rel (k + 3) u' v') v) u := by
  obtain ⟨m, na, nc, nw, nh, np, nt, fk, nl, nr, nn, ne, nk, nf, rfl, rfl, N, S, K⟩ := I
  unfold wpX_length
  refine lx_leastOf (k := 3) N (by decide) (fun C => ?_)
  unfold wpY_length
  refine lz_least (k := 3) N (by decide) K (fun fk' nl' nr' nn' ne' nc' nf' h => ⟨?_, iy_mk N S (fun _ => h)⟩)
  rw [ly_COl ly_F3]
theorem i_vc_width {k : Nat} {u : SX} {v : SY} (I : i_Rel k u v) (hk : k + 3 ≤ 1536) : wpX_width (fun r u' => wpY_width (fun r' v' => r' = r ∧ i_Rel (k + 3) u' v') v) u := by
  obtain ⟨m, na, nc, nw, nh, np, nt, fk, nl, nr, nn, ne, nk, nf, rfl, rfl, N, S, K⟩ := I
  unfold wpX_width
  refine lx_leastOf (k := 2) N (by decide) (fun C => ?_)
  unfold wpY_width
  refine lz_least (k := 4) N (by decide) K (fun fk' nl' nr' nn' ne' nc' nf' h => ⟨?_, iy_mk N S (fun _ => h)⟩)
  rw [ly_COl (ly_F2 (fun p hp => (N p hp).2) S)]
theorem i_vc_fill {k : Nat} {u : SX} {v : SY} (I : i_Rel k u v) (hk : k + 3 ≤ 1536) : wpX_fill (fun r u' => wpY_fill (fun r' v' => r' = r ∧ i_Rel (k + 3) u' v') v) u := by
  obtain ⟨m, na, nc, nw, nh, np, nt, fk, nl, nr, nn, ne, nk, nf, rfl, rfl, N, S, K⟩ := I
  unfold wpX_fill
  refine lx_leastOf (k := 4) N (by decide) (fun C => ?_)
  unfold wpY_fill
  refine lz_least (k := 5) N (by decide) K (fun fk' nl' nr' nn' ne' nc' nf' h => ⟨?_, iy_mk N S (fun _ => h)⟩)
  rw [ly_COl (ly_F4 (fun p hp => (N p hp).2) S)]
theorem i_vc_cutOrders {k : Nat} {u : SX} {v : SY} (I : i_Rel k u v) (hk : k + 3 ≤ 1536) : wpX_cutOrders (fun r u' => wpY_cutOrders (fun r' v' => r' = r ∧ i_Rel (k + 3) u' v') v) u := by
  obtain ⟨m, na, nc, nw, nh, np, nt, fk, nl, nr, nn, ne, nk, nf, rfl, rfl, N, S, K⟩ := I
  unfold wpX_cutOrders
  refine lx_ordersOf (k := 0) N (by decide) (fun C W => ?_)
  unfold wpY_cutOrders
  refine lz_countLeast (k := 0) N (by decide) K (fun fk' nl' nr' nn' ne' nc' nf' h => ⟨?_, iy_mk N S (fun _ => h)⟩)
  rw [ly_WYl ly_F0]
theorem i_vc_lengthOrders {k : Nat} {u : SX} {v : SY} (I : i_Rel k u v) (hk : k + 3 ≤ 1536) : wpX_lengthOrders (fun r u' => wpY_lengthOrders (fun r' v' => r' = r ∧ i_Rel (k + 3) u' v') v) u := by
  obtain ⟨m, na, nc, nw, nh, np, nt, fk, nl, nr, nn, ne, nk, nf, rfl, rfl, N, S, K⟩ := I
  unfold wpX_lengthOrders
  refine lx_ordersOf (k := 3) N (by decide) (fun C W => ?_)
  unfold wpY_lengthOrders
  refine lz_countLeast (k := 3) N (by decide) K (fun fk' nl' nr' nn' ne' nc' nf' h => ⟨?_, iy_mk N S (fun _ => h)⟩)
  rw [ly_WYl ly_F3]
theorem i_vc_fillOrders {k : Nat} {u : SX} {v : SY} (I : i_Rel k u v) (hk : k + 3 ≤ 1536) : wpX_fillOrders (fun r u' => wpY_fillOrders (fun r' v' => r' = r ∧ i_Rel (k + 3) u' v') v) u := by
  obtain ⟨m, na, nc, nw, nh, np, nt, fk, nl, nr, nn, ne, nk, nf, rfl, rfl, N, S, K⟩ := I
  unfold wpX_fillOrders
  refine lx_ordersOf (k := 4) N (by decide) (fun C W => ?_)
  unfold wpY_fillOrders
  refine lz_countLeast (k := 5) N (by decide) K (fun fk' nl' nr' nn' ne' nc' nf' h => ⟨?_, iy_mk N S (fun _ => h)⟩)
  rw [ly_WYl (ly_F4 (fun p hp => (N p hp).2) S)]
/-- no such place -/
theorem iy_no {post : Int32 → SY → Prop} {fk : Int32} {na nl nr nn ne nk nf : Nat → Int32} {x y : Int32} (h : ¬ ∃ p, p < 6 ∧ x = nI p) (hp : post (-4) (fk, na, nl, nr, nn, ne, nk, nf)) : wpY_firstLeast post (fk, na, nl, nr, nn, ne, nk, nf) y x := by
  unfold wpY_firstLeast
  refine br_c (fun _ => hp) (fun hn => br_f (fun h5 => ?_) hp)
  obtain ⟨j, hj, rfl⟩ := nI_of hn
  have := (nI_leI hj (b := 5) (by decide)).mp h5
  exact h ⟨j, by omega, rfl⟩
theorem i_vc_lengthOrder {k : Nat} {u : SX} {v : SY} (I : i_Rel k u v) (hk : k + 3 ≤ 1536) (v1 : Int32) : wpX_lengthOrder (fun r u' => wpY_lengthOrder (fun r' v' => r' = r ∧ i_Rel (k + 3) u' v') v v1) u v1 := by
  obtain ⟨m, na, nc, nw, nh, np, nt, fk, nl, nr, nn, ne, nk, nf, rfl, rfl, N, S, K⟩ := I
  have F := ly_F3 (m := m)
  unfold wpX_lengthOrder
  refine lx_bad _ (fun z => br_f (by decide) ?_) (fun z => br_t rfl ?_)
  · unfold wpY_lengthOrder
    exact iy_no z ⟨rfl, iy_mk N S K⟩
  · obtain ⟨i, hi, rfl⟩ := z
    have hQ := ly_first F
    refine lx_orderAt (k := 3) (r := ly_ro (ly_ff (ly_f m 3) 720)) N (by decide) hi (fun j _ => ly_roL _ j) (fun j hj => hQ j (by omega)) (fun A => ?_)
    unfold wpY_lengthOrder
    exact lz_firstLeast (k := 3) N (by decide) hi (ly_ffE _ F.1 720 (by decide)).1 K (fun fk' nl' nr' nn' ne' nc' nf' h => ⟨rfl, iy_mk N S (fun _ => h)⟩)
theorem i_vc_widthOrder {k : Nat} {u : SX} {v : SY} (I : i_Rel k u v) (hk : k + 3 ≤ 1536) (v1 : Int32) : wpX_widthOrder (fun r u' => wpY_widthOrder (fun r' v' => r' = r ∧ i_Rel (k + 3) u' v') v v1) u v1 := by
  obtain ⟨m, na, nc, nw, nh, np, nt, fk, nl, nr, nn, ne, nk, nf, rfl, rfl, N, S, K⟩ := I
  have F := ly_F2 (m := m) (fun p hp => (N p hp).2) S
  unfold wpX_widthOrder
  refine lx_bad _ (fun z => br_f (by decide) ?_) (fun z => br_t rfl ?_)
  · unfold wpY_widthOrder
    exact iy_no z ⟨rfl, iy_mk N S K⟩
  · obtain ⟨i, hi, rfl⟩ := z
    have hQ := ly_first F
    refine lx_orderAt (k := 2) (r := ly_ro (ly_ff (ly_f m 4) 720)) N (by decide) hi (fun j _ => ly_roL _ j) (fun j hj => hQ j (by omega)) (fun A => ?_)
    unfold wpY_widthOrder
    exact lz_firstLeast (k := 4) N (by decide) hi (ly_ffE _ F.1 720 (by decide)).1 K (fun fk' nl' nr' nn' ne' nc' nf' h => ⟨rfl, iy_mk N S (fun _ => h)⟩)
theorem i_vc_whole {k : Nat} {u : SX} {v : SY} (I : i_Rel k u v) (hk : k + 3 ≤ 1536) : wpX_whole (fun r u' => wpY_whole (fun r' v' => r' = r ∧ i_Rel (k + 3) u' v') v) u := by
  obtain ⟨m, na, nc, nw, nh, np, nt, fk, nl, nr, nn, ne, nk, nf, rfl, rfl, N, S, K⟩ := I
  have e := ly_COl (ly_F4 (m := m) (fun p hp => (N p hp).2) S)
  unfold wpX_whole
  refine lx_leastOf (k := 4) N (by decide) (fun C => ?_)
  refine br_c (fun z => ?_) (fun z => ?_)
  · unfold wpY_whole
    refine lz_least (k := 5) N (by decide) K (fun fk' nl' nr' nn' ne' nc' nf' h => br_t ?_ ⟨rfl, iy_mk N S (fun _ => h)⟩)
    rw [← e]; exact z
  · unfold wpY_whole
    refine lz_least (k := 5) N (by decide) K (fun fk' nl' nr' nn' ne' nc' nf' h => br_f ?_ ⟨rfl, iy_mk N S (fun _ => h)⟩)
    rw [← e]; exact z
theorem i_vc_growth {k : Nat} {u : SX} {v : SY} (I : i_Rel k u v) (hk : k + 3 ≤ 1536) (v1 : Int32) (v2 : Int32) : wpX_growth (fun r u' => wpY_growth (fun r' v' => r' = r ∧ i_Rel (k + 3) u' v') v v1 v2) u v1 v2 := by
  obtain ⟨m, na, nc, nw, nh, np, nt, fk, nl, nr, nn, ne, nk, nf, rfl, rfl, N, S, K⟩ := I
  by_cases h : ∃ p q, p < 6 ∧ q < 6 ∧ p ≠ q ∧ v1 = nI p ∧ v2 = nI q
  · have h' := h
    obtain ⟨p, q, hp, hq, hn, rfl, rfl⟩ := h
    have N2 := ly_taN (p := p) (q := q) N hp hq
    have S2 := ly_tmS S hp hq hn
    have N3 := ly_taN (p := p) (q := q) N2 hp hq
    rw [ly_tmT hn] at N3
    unfold wpX_growth
    refine lx_bad _ (fun z => absurd ⟨p, hp, rfl⟩ z) (fun _ => br_t rfl (lx_bad _ (fun z => absurd ⟨q, hq, rfl⟩ z) (fun _ => br_t rfl (pk_eq p q (fun e => absurd e hn) (fun _ => ⟨ly_in6 hp, ?_⟩) rfl rfl (by omega) (by omega)))))
    refine br_c (fun z => ?_) (fun z => ?_)
    · unfold wpY_growth
      exact lz_isPair _ _ (fun y => absurd h' y) (fun _ => br_f (by decide) ⟨ly_in6 hp, br_t z ⟨rfl, iy_mk N S K⟩⟩)
    · refine lx_leastOf (k := 2) N (by decide) (fun C => lx_turn N hp hq hn (lx_leastOf (k := 2) N2 (by decide) (fun C2 => lx_turn N2 hp hq hn ?_)))
      unfold wpY_growth
      refine lz_isPair _ _ (fun y => absurd h' y) (fun _ => br_f (by decide) ⟨ly_in6 hp, br_f z ?_⟩)
      refine lz_least (k := 4) N (by decide) K (fun fk' nl' nr' nn' ne' nc' nf' hK => lz_exch N hp hq hn (lz_widthNow N2 (fun nl2 nr2 nn2 => lz_exch N2 hp hq hn ⟨?_, iy_mk N3 S (fun _ => hK)⟩)))
      rw [ly_COl (ly_F2 (fun p hp => (N p hp).2) S), ly_COl (ly_F2 (fun p hp => (N2 p hp).2) S2)]
  · have fin : wpY_growth (fun r' v' => r' = -1 ∧ i_Rel (k + 3) (na, nc, nw, nh, np, nt) v') (fk, na, nl, nr, nn, ne, nk, nf) v1 v2 := by
      unfold wpY_growth
      exact lz_isPair _ _ (fun _ => br_t rfl ⟨rfl, iy_mk N S K⟩) (fun z => absurd z h)
    unfold wpX_growth
    refine lx_bad _ (fun z => br_f (by decide) fin) (fun z1 => br_t rfl (lx_bad _ (fun z => br_f (by decide) fin) (fun z2 => br_t rfl (br_c (fun _ => fin) (fun ne => absurd ?_ h)))))
    obtain ⟨p, hp, rfl⟩ := z1
    obtain ⟨q, hq, rfl⟩ := z2
    exact ⟨p, q, hp, hq, fun e => ne (by rw [e]), rfl, rfl⟩
theorem i_vc_clique {k : Nat} {u : SX} {v : SY} (I : i_Rel k u v) (hk : k + 3 ≤ 1536) : wpX_clique (fun r u' => wpY_clique (fun r' => r' = r ∧ i_Rel (k + 3) u' v) v) u := by
  obtain ⟨m, na, nc, nw, nh, np, nt, fk, nl, nr, nn, ne, nk, nf, rfl, rfl, N, S, K⟩ := I
  exact lx_clique N S (fun W => lz_clique N ⟨rfl, iy_mk N S K⟩)
end
