section
/-! pure rows to paste: stores, nI and lN arithmetic, masks, shifts, narrowing, branches by naturals (pk_le, pk_lt, pk_eq), loops (lp1 .. lp16: the measure of the state; rp1 ..: recursion), negatives. Take what you need -/
theorem pk_us {f : Nat → Int32} {k : Nat} {x : Int32} : upd f k x k = x := if_pos rfl
theorem pk_un {f : Nat → Int32} {k j : Nat} {x : Int32} (h : j ≠ k) : upd f k x j = f j := if_neg h
theorem pk_uLs {f : Nat → Int64} {k : Nat} {x : Int64} : vp_updL f k x k = x := if_pos rfl
theorem pk_uLn {f : Nat → Int64} {k j : Nat} {x : Int64} (h : j ≠ k) : vp_updL f k x j = f j := if_neg h
theorem pk_sub {a b : Nat} (h : b ≤ a) : nI a - nI b = nI (a - b) := by
  obtain ⟨c, rfl⟩ : ∃ c, a = c + b := ⟨a - b, by omega⟩
  rw [← nI_add, Int32.add_sub_cancel, Nat.add_sub_cancel]
theorem pk_m1 (n : Nat) : nI (n + 1) + (-1) = nI n := by
  rw [← nI_1, Int32.add_assoc, show (1 : Int32) + (-1) = 0 from rfl, Int32.add_zero]
theorem pk_mul (a b : Nat) : nI a * nI b = nI (a * b) := (Int32.ofNat_mul a b).symm
theorem pk_div {a d : Nat} (ha : a < 2 ^ 31) (h0 : 0 < d) (hd : d < 2 ^ 31) : nI a / nI d = nI (a / d) := by
  apply Int32.toInt_inj.mp
  rw [lg_idiv_nonneg (by rw [nI_toInt ha]; omega) (by rw [nI_toInt hd]; omega), nI_toInt ha, nI_toInt hd, nI_toInt (Nat.lt_of_le_of_lt (Nat.div_le_self a d) ha)]
  first | rfl | exact (Int.natCast_ediv _ _).symm
theorem pk_rem {a d : Nat} (ha : a < 2 ^ 31) (h0 : 0 < d) (hd : d < 2 ^ 31) : nI a - nI a / nI d * nI d = nI (a % d) := by
  rw [pk_div ha h0 hd, pk_mul, pk_sub (Nat.div_mul_le_self a d)]
  exact congrArg nI (by have := Nat.div_add_mod' a d; omega)
theorem pk_sub_toInt {a b : Nat} (ha : a < 2 ^ 30) (hb : b < 2 ^ 30) : (nI a - nI b).toInt = (a : Int) - b := by
  rw [Int32.toInt_sub, nI_toInt (by omega), nI_toInt (by omega)]
  exact Int.bmod_eq_of_le (by omega) (by omega)
theorem pk_sneg {a b : Nat} (hb : b < 2 ^ 30) (h : a < b) : nI a - nI b < 0 := by
  rw [Int32.lt_iff_toInt_lt, pk_sub_toInt (by omega) hb, show (0 : Int32).toInt = 0 from by decide]
  omega
theorem pk_ix (x : Int32) {n : Nat} (hn : n < 2 ^ 31) : x < 0 ∨ nI n ≤ x ∨ ∃ j : Nat, j < n ∧ x = nI j := by
  by_cases h : x < 0
  · exact Or.inl h
  · obtain ⟨j, hj, rfl⟩ := nI_of h
    by_cases h2 : j < n
    · exact Or.inr (Or.inr ⟨j, h2, rfl⟩)
    · exact Or.inr (Or.inl (nI_le (by omega) hj))
theorem pk_le {x y : Int32} {A B : Prop} (a b : Nat) (f : a ≤ b → A) (g : b < a → B) (hx : x = nI a := by rfl) (hy : y = nI b := by rfl) (ha : a < 2 ^ 31 := by omega) (hb : b < 2 ^ 31 := by omega) : (x ≤ y → A) ∧ (¬ x ≤ y → B) := by
  subst hx hy
  rw [nI_leI ha hb]
  exact ⟨f, fun z => g (by omega)⟩
theorem pk_lt {x y : Int32} {A B : Prop} (a b : Nat) (f : a < b → A) (g : b ≤ a → B) (hx : x = nI a := by rfl) (hy : y = nI b := by rfl) (ha : a < 2 ^ 31 := by omega) (hb : b < 2 ^ 31 := by omega) : (x < y → A) ∧ (¬ x < y → B) := by
  subst hx hy
  rw [nI_ltI ha hb]
  exact ⟨f, fun z => g (by omega)⟩
theorem pk_eq {x y : Int32} {A B : Prop} (a b : Nat) (f : a = b → A) (g : a ≠ b → B) (hx : x = nI a := by rfl) (hy : y = nI b := by rfl) (ha : a < 2 ^ 31 := by omega) (hb : b < 2 ^ 31 := by omega) : (x = y → A) ∧ (¬ x = y → B) := by
  subst hx hy
  rw [nI_eq ha hb]
  exact ⟨f, g⟩
theorem pk_in {x : Int32} (n N : Nat) (h : n < N) (hx : x = nI n := by rfl) (hN : N < 2 ^ 31 := by omega) : vp_in x N := by
  subst hx
  exact vp_in_nI h hN
theorem pk_cl {x : Int32} (n : Nat) (hx : x = nI n := by rfl) (h : n < 2 ^ 31 := by omega) : x.toNatClampNeg = n := by
  subst hx
  exact nI_clamp h
theorem pk_tn {n : Nat} (h : n < 2 ^ 32) : (nI n).toBitVec.toNat = n := Nat.mod_eq_of_lt h
theorem pk_and (x : Int32) {m : Int32} (k : Nat) (hm : m.toBitVec.toNat = 2 ^ k - 1) : x &&& m = nI (x.toBitVec.toNat % 2 ^ k) := by
  apply Int32.toBitVec_inj.mp
  apply BitVec.eq_of_toNat_eq
  rw [Int32.toBitVec_and, BitVec.toNat_and, hm, Nat.and_two_pow_sub_one_eq_mod]
  show _ = (BitVec.ofNat 32 _).toNat
  rw [BitVec.toNat_ofNat]
  exact (Nat.mod_eq_of_lt (Nat.lt_of_le_of_lt (Nat.mod_le _ _) x.toBitVec.isLt)).symm
theorem pk_andN {n : Nat} (h : n < 2 ^ 32) {m : Int32} (k : Nat) (hm : m.toBitVec.toNat = 2 ^ k - 1) : nI n &&& m = nI (n % 2 ^ k) := by
  rw [pk_and _ k hm, pk_tn h]
theorem pk_andE (x : Int32) {m : Int32} (k : Nat) (hm : m.toBitVec.toNat = 2 ^ k - 1) : ∃ j : Nat, j < 2 ^ k ∧ x &&& m = nI j := ⟨_, Nat.mod_lt _ (Nat.two_pow_pos k), pk_and x k hm⟩
theorem pk_andIn (x : Int32) {m : Int32} (k : Nat) (hm : m.toBitVec.toNat = 2 ^ k - 1) (hk : k ≤ 30) : vp_in (x &&& m) (2 ^ k) := by
  obtain ⟨j, hj, e⟩ := pk_andE x k hm
  rw [e]
  exact vp_in_nI hj (Nat.lt_of_le_of_lt (Nat.pow_le_pow_right (by decide) hk) (by decide))
theorem pk_shl (a s : Int32) (k : Nat) (hs : (s.toBitVec.smod 32).toNat = k) : (a <<< s).toBitVec.toNat = a.toBitVec.toNat * 2 ^ k % 2 ^ 32 := by
  show (a.toBitVec <<< (s.toBitVec.smod 32).toNat).toNat = _
  rw [hs, BitVec.toNat_shiftLeft, Nat.shiftLeft_eq]
theorem pk_shlN {n : Nat} (s : Int32) (k : Nat) (hs : (s.toBitVec.smod 32).toNat = k) (h : n * 2 ^ k < 2 ^ 32) : nI n <<< s = nI (n * 2 ^ k) := by
  apply Int32.toBitVec_inj.mp
  apply BitVec.eq_of_toNat_eq
  have hn : n < 2 ^ 32 := Nat.lt_of_le_of_lt (Nat.le_mul_of_pos_right n (Nat.two_pow_pos k)) h
  rw [pk_shl _ _ k hs, pk_tn hn, pk_tn h, Nat.mod_eq_of_lt h]
theorem pk_shr (a s : Int32) (k : Nat) (hs : (s.toBitVec.smod 32).toNat = k) : (a >>> s).toInt = a.toInt >>> k := by
  show (a.toBitVec.sshiftRight (s.toBitVec.smod 32).toNat).toInt = _
  rw [hs, BitVec.toInt_sshiftRight]
  rfl
theorem pk_shrN {n : Nat} (h : n < 2 ^ 31) (s : Int32) (k : Nat) (hs : (s.toBitVec.smod 32).toNat = k) : nI n >>> s = nI (n / 2 ^ k) := by
  apply Int32.toInt_inj.mp
  have h2 : n / 2 ^ k ≤ n := Nat.div_le_self _ _
  rw [pk_shr _ _ k hs, nI_toInt h, nI_toInt (by omega), Int.shiftRight_eq_div_pow]
  rfl
theorem pk_ushr (x s : Int32) (k : Nat) (hs : ((s.toUInt32 &&& Int32.toUInt32 31).toBitVec % 32).toNat = k) : (x.toUInt32 >>> (s.toUInt32 &&& Int32.toUInt32 31)).toInt32.toBitVec.toNat = x.toBitVec.toNat / 2 ^ k := by
  have e : (x.toUInt32 >>> (s.toUInt32 &&& Int32.toUInt32 31)).toInt32.toBitVec = x.toBitVec >>> k := by
    rw [← hs]
    exact UInt32.toBitVec_shiftRight _ _
  rw [e, BitVec.toNat_ushiftRight, Nat.shiftRight_eq_div_pow]
theorem pk_ushrN {n : Nat} (hn : n < 2 ^ 32) (s : Int32) (k : Nat) (hs : ((s.toUInt32 &&& Int32.toUInt32 31).toBitVec % 32).toNat = k) : ((nI n).toUInt32 >>> (s.toUInt32 &&& Int32.toUInt32 31)).toInt32 = nI (n / 2 ^ k) := by
  apply Int32.toBitVec_inj.mp
  apply BitVec.eq_of_toNat_eq
  rw [pk_ushr _ s k hs, pk_tn hn, pk_tn (Nat.lt_of_le_of_lt (Nat.div_le_self _ _) hn)]
theorem pk_nb (z : Int32) : narrow .byte (.int z.toInt8.toInt32) = .int z.toInt8.toInt32 := congrArg Value.int (by simp)
theorem pk_ns (z : Int32) : narrow .short (.int z.toInt16.toInt32) = .int z.toInt16.toInt32 := congrArg Value.int (by simp)
theorem pk_fb (r : Int32) : fits .byte (.int r.toInt8.toInt32) = true := by
  have ⟨a, b⟩ := lg_i2b_range r
  have h1 : (-128 : Int32).toInt = -128 := by decide
  have h2 : (127 : Int32).toInt = 127 := by decide
  simp only [fits, Bool.and_eq_true, decide_eq_true_eq, Int32.le_iff_toInt_le, h1, h2]
  omega
theorem pk_fs (r : Int32) : fits .short (.int r.toInt16.toInt32) = true := by
  have ⟨a, b⟩ := lg_i2s_range r
  have h1 : (-32768 : Int32).toInt = -32768 := by decide
  have h2 : (32767 : Int32).toInt = 32767 := by decide
  simp only [fits, Bool.and_eq_true, decide_eq_true_eq, Int32.le_iff_toInt_le, h1, h2]
  omega
theorem pk_charN {q : Nat} (hq : q < 65536) : narrow .char (.int (nI q)) = .int (nI q) ∧ fits .char (.int (nI q)) = true := by
  constructor
  · have e : (nI q).toUInt32.toUInt16.toUInt32.toInt32 = nI q := by
      apply Int32.toBitVec_inj.mp
      apply BitVec.eq_of_toNat_eq
      show (nI q).toUInt32.toUInt16.toUInt32.toNat = q % 2 ^ 32
      rw [UInt16.toNat_toUInt32, UInt32.toNat_toUInt16, show (nI q).toUInt32.toNat = q % 2 ^ 32 from rfl]
      omega
    exact congrArg Value.int e
  · have a : (0 : Int32) ≤ nI q := nI_pos' (by omega)
    have b : nI q ≤ 65535 := nI_le (b := 65535) (by omega) (by decide)
    show (decide ((0 : Int32) ≤ nI q) && decide (nI q ≤ 65535)) = true
    rw [decide_eq_true a, decide_eq_true b]
    rfl
theorem pk_char (x : Int32) : (x.toUInt32 % 65536).toInt32 = nI (x.toBitVec.toNat % 65536) := by
  apply Int32.toBitVec_inj.mp
  apply BitVec.eq_of_toNat_eq
  rw [pk_tn (by omega)]
  show (x.toUInt32 % 65536).toNat = _
  rw [UInt32.toNat_mod]
  rfl
theorem pk_nc (x : Int32) : narrow .char (.int (x.toUInt32 % 65536).toInt32) = .int (x.toUInt32 % 65536).toInt32 := by
  rw [pk_char]
  exact (pk_charN (Nat.mod_lt _ (by decide))).1
theorem pk_fc (x : Int32) : fits .char (.int (x.toUInt32 % 65536).toInt32) = true := by
  rw [pk_char]
  exact (pk_charN (Nat.mod_lt _ (by decide))).2
theorem pk_vb (z : Int32) : vp_nar .byte z.toInt8.toInt32 = z.toInt8.toInt32 := by rw [vp_nar_byte]; simp
theorem pk_vs (z : Int32) : vp_nar .short z.toInt16.toInt32 = z.toInt16.toInt32 := by rw [vp_nar_short]; simp
theorem pk_vc (z : Int32) : vp_nar .char (z.toUInt32 % 65536).toInt32 = (z.toUInt32 % 65536).toInt32 := Value.int.inj (pk_nc z)
theorem pk_lT {n : Nat} (h : n < 2 ^ 63) : (lN n).toInt = (n : Int) := lg_ofNat_toInt h
theorem pk_lLT {a b : Nat} (ha : a < 2 ^ 63) (hb : b < 2 ^ 63) : lN a < lN b ↔ a < b := by
  rw [Int64.lt_iff_toInt_lt, pk_lT ha, pk_lT hb]; omega
theorem pk_lLE {a b : Nat} (ha : a < 2 ^ 63) (hb : b < 2 ^ 63) : lN a ≤ lN b ↔ a ≤ b := by
  rw [Int64.le_iff_toInt_le, pk_lT ha, pk_lT hb]; omega
theorem pk_lEQ {a b : Nat} (ha : a < 2 ^ 63) (hb : b < 2 ^ 63) : lN a = lN b ↔ a = b := by
  rw [← Int64.toInt_inj, pk_lT ha, pk_lT hb]; omega
theorem pk_lOf {x : Int64} (h : ¬ x < 0) : ∃ k : Nat, k < 2 ^ 63 ∧ x = lN k := by
  rw [Int64.lt_iff_toInt_lt] at h
  have h0 : (0 : Int64).toInt = 0 := by decide
  have hx := Int64.toInt_lt x
  refine ⟨x.toInt.toNat, by omega, Int64.toInt_inj.mp ?_⟩
  rw [pk_lT (by omega)]
  omega
theorem pk_lDiv {a b : Nat} (ha : a < 2 ^ 63) (h0 : 0 < b) (hb : b < 2 ^ 63) : lN a / lN b = lN (a / b) := by
  apply Int64.toInt_inj.mp
  rw [lg_ldiv_nonneg (by rw [pk_lT ha]; omega) (by rw [pk_lT hb]; omega), pk_lT ha, pk_lT hb, pk_lT (Nat.lt_of_le_of_lt (Nat.div_le_self a b) ha)]
  rfl
theorem pk_lRem {a b : Nat} (ha : a < 2 ^ 63) (h0 : 0 < b) (hb : b < 2 ^ 63) : lN a - lN a / lN b * lN b = lN (a % b) := by
  rw [pk_lDiv ha h0 hb, lN_mul, lN_sub (Nat.div_mul_le_self a b)]
  exact congrArg lN (by have := Nat.div_add_mod' a b; omega)
theorem pk_loop {σ : Type} (W : Nat → Nat → σ → Prop) (I : Nat → σ → Prop) (e i0 : Nat) (s : σ) (hi : i0 ≤ e) (h0 : I i0 s) (hx : ∀ n s, I e s → W (n + 1) e s)
    (hs : ∀ n i s, i < e → I i s → (∀ s', I (i + 1) s' → W n (i + 1) s') → W (n + 1) i s) : ∃ n, W n i0 s :=
  ⟨e + 1, loop_i W I e hx hs (e + 1) i0 s hi (by omega) h0⟩
theorem pk_loopD {σ : Type} (W : Nat → Nat → σ → Prop) (I : Nat → σ → Prop) (hx : ∀ n s, I 0 s → W (n + 1) 0 s)
    (hs : ∀ n i s, I (i + 1) s → (∀ s', I i s' → W n i s') → W (n + 1) (i + 1) s) : ∀ (e : Nat) (s : σ), I e s → W (e + 1) e s := by
  intro e
  induction e with
  | zero => exact fun s h => hx 0 s h
  | succ e ih => exact fun s h => hs (e + 1) e s h (fun s' h' => ih s' h')
theorem lp1 {A1 : Type} (W : Nat → A1 → Prop) (I : A1 → Prop) (μ : A1 → Nat) (hs : ∀ (n : Nat) (a1 : A1), I a1 → (∀ (b1 : A1), I b1 → μ b1 < μ a1 → W n b1) → W (n + 1) a1) (a1 : A1) (h : I a1) : ∃ n, W n a1 :=
  loop_m (σ := A1) (fun n s => W n s) (fun s => I s) (fun s => μ s) (fun n s hI hk => hs n s hI (fun b1 h9 hm => hk b1 h9 hm)) a1 h
theorem lp2 {A1 A2 : Type} (W : Nat → A1 → A2 → Prop) (I : A1 → A2 → Prop) (μ : A1 → A2 → Nat) (hs : ∀ (n : Nat) (a1 : A1) (a2 : A2), I a1 a2 → (∀ (b1 : A1) (b2 : A2), I b1 b2 → μ b1 b2 < μ a1 a2 → W n b1 b2) → W (n + 1) a1 a2) (a1 : A1) (a2 : A2) (h : I a1 a2) : ∃ n, W n a1 a2 :=
  loop_m (σ := A1 × A2) (fun n s => W n s.1 s.2) (fun s => I s.1 s.2) (fun s => μ s.1 s.2) (fun n s hI hk => hs n s.1 s.2 hI (fun b1 b2 h9 hm => hk (b1, b2) h9 hm)) (a1, a2) h
theorem lp3 {A1 A2 A3 : Type} (W : Nat → A1 → A2 → A3 → Prop) (I : A1 → A2 → A3 → Prop) (μ : A1 → A2 → A3 → Nat) (hs : ∀ (n : Nat) (a1 : A1) (a2 : A2) (a3 : A3), I a1 a2 a3 → (∀ (b1 : A1) (b2 : A2) (b3 : A3), I b1 b2 b3 → μ b1 b2 b3 < μ a1 a2 a3 → W n b1 b2 b3) → W (n + 1) a1 a2 a3) (a1 : A1) (a2 : A2) (a3 : A3) (h : I a1 a2 a3) : ∃ n, W n a1 a2 a3 :=
  loop_m (σ := A1 × A2 × A3) (fun n s => W n s.1 s.2.1 s.2.2) (fun s => I s.1 s.2.1 s.2.2) (fun s => μ s.1 s.2.1 s.2.2) (fun n s hI hk => hs n s.1 s.2.1 s.2.2 hI (fun b1 b2 b3 h9 hm => hk (b1, b2, b3) h9 hm)) (a1, a2, a3) h
theorem lp4 {A1 A2 A3 A4 : Type} (W : Nat → A1 → A2 → A3 → A4 → Prop) (I : A1 → A2 → A3 → A4 → Prop) (μ : A1 → A2 → A3 → A4 → Nat) (hs : ∀ (n : Nat) (a1 : A1) (a2 : A2) (a3 : A3) (a4 : A4), I a1 a2 a3 a4 → (∀ (b1 : A1) (b2 : A2) (b3 : A3) (b4 : A4), I b1 b2 b3 b4 → μ b1 b2 b3 b4 < μ a1 a2 a3 a4 → W n b1 b2 b3 b4) → W (n + 1) a1 a2 a3 a4) (a1 : A1) (a2 : A2) (a3 : A3) (a4 : A4) (h : I a1 a2 a3 a4) : ∃ n, W n a1 a2 a3 a4 :=
  loop_m (σ := A1 × A2 × A3 × A4) (fun n s => W n s.1 s.2.1 s.2.2.1 s.2.2.2) (fun s => I s.1 s.2.1 s.2.2.1 s.2.2.2) (fun s => μ s.1 s.2.1 s.2.2.1 s.2.2.2) (fun n s hI hk => hs n s.1 s.2.1 s.2.2.1 s.2.2.2 hI (fun b1 b2 b3 b4 h9 hm => hk (b1, b2, b3, b4) h9 hm)) (a1, a2, a3, a4) h
theorem lp5 {A1 A2 A3 A4 A5 : Type} (W : Nat → A1 → A2 → A3 → A4 → A5 → Prop) (I : A1 → A2 → A3 → A4 → A5 → Prop) (μ : A1 → A2 → A3 → A4 → A5 → Nat) (hs : ∀ (n : Nat) (a1 : A1) (a2 : A2) (a3 : A3) (a4 : A4) (a5 : A5), I a1 a2 a3 a4 a5 → (∀ (b1 : A1) (b2 : A2) (b3 : A3) (b4 : A4) (b5 : A5), I b1 b2 b3 b4 b5 → μ b1 b2 b3 b4 b5 < μ a1 a2 a3 a4 a5 → W n b1 b2 b3 b4 b5) → W (n + 1) a1 a2 a3 a4 a5) (a1 : A1) (a2 : A2) (a3 : A3) (a4 : A4) (a5 : A5) (h : I a1 a2 a3 a4 a5) : ∃ n, W n a1 a2 a3 a4 a5 :=
  loop_m (σ := A1 × A2 × A3 × A4 × A5) (fun n s => W n s.1 s.2.1 s.2.2.1 s.2.2.2.1 s.2.2.2.2) (fun s => I s.1 s.2.1 s.2.2.1 s.2.2.2.1 s.2.2.2.2) (fun s => μ s.1 s.2.1 s.2.2.1 s.2.2.2.1 s.2.2.2.2) (fun n s hI hk => hs n s.1 s.2.1 s.2.2.1 s.2.2.2.1 s.2.2.2.2 hI (fun b1 b2 b3 b4 b5 h9 hm => hk (b1, b2, b3, b4, b5) h9 hm)) (a1, a2, a3, a4, a5) h
theorem lp6 {A1 A2 A3 A4 A5 A6 : Type} (W : Nat → A1 → A2 → A3 → A4 → A5 → A6 → Prop) (I : A1 → A2 → A3 → A4 → A5 → A6 → Prop) (μ : A1 → A2 → A3 → A4 → A5 → A6 → Nat) (hs : ∀ (n : Nat) (a1 : A1) (a2 : A2) (a3 : A3) (a4 : A4) (a5 : A5) (a6 : A6), I a1 a2 a3 a4 a5 a6 → (∀ (b1 : A1) (b2 : A2) (b3 : A3) (b4 : A4) (b5 : A5) (b6 : A6), I b1 b2 b3 b4 b5 b6 → μ b1 b2 b3 b4 b5 b6 < μ a1 a2 a3 a4 a5 a6 → W n b1 b2 b3 b4 b5 b6) → W (n + 1) a1 a2 a3 a4 a5 a6) (a1 : A1) (a2 : A2) (a3 : A3) (a4 : A4) (a5 : A5) (a6 : A6) (h : I a1 a2 a3 a4 a5 a6) : ∃ n, W n a1 a2 a3 a4 a5 a6 :=
  loop_m (σ := A1 × A2 × A3 × A4 × A5 × A6) (fun n s => W n s.1 s.2.1 s.2.2.1 s.2.2.2.1 s.2.2.2.2.1 s.2.2.2.2.2) (fun s => I s.1 s.2.1 s.2.2.1 s.2.2.2.1 s.2.2.2.2.1 s.2.2.2.2.2) (fun s => μ s.1 s.2.1 s.2.2.1 s.2.2.2.1 s.2.2.2.2.1 s.2.2.2.2.2) (fun n s hI hk => hs n s.1 s.2.1 s.2.2.1 s.2.2.2.1 s.2.2.2.2.1 s.2.2.2.2.2 hI (fun b1 b2 b3 b4 b5 b6 h9 hm => hk (b1, b2, b3, b4, b5, b6) h9 hm)) (a1, a2, a3, a4, a5, a6) h
theorem lp7 {A1 A2 A3 A4 A5 A6 A7 : Type} (W : Nat → A1 → A2 → A3 → A4 → A5 → A6 → A7 → Prop) (I : A1 → A2 → A3 → A4 → A5 → A6 → A7 → Prop) (μ : A1 → A2 → A3 → A4 → A5 → A6 → A7 → Nat) (hs : ∀ (n : Nat) (a1 : A1) (a2 : A2) (a3 : A3) (a4 : A4) (a5 : A5) (a6 : A6) (a7 : A7), I a1 a2 a3 a4 a5 a6 a7 → (∀ (b1 : A1) (b2 : A2) (b3 : A3) (b4 : A4) (b5 : A5) (b6 : A6) (b7 : A7), I b1 b2 b3 b4 b5 b6 b7 → μ b1 b2 b3 b4 b5 b6 b7 < μ a1 a2 a3 a4 a5 a6 a7 → W n b1 b2 b3 b4 b5 b6 b7) → W (n + 1) a1 a2 a3 a4 a5 a6 a7) (a1 : A1) (a2 : A2) (a3 : A3) (a4 : A4) (a5 : A5) (a6 : A6) (a7 : A7) (h : I a1 a2 a3 a4 a5 a6 a7) : ∃ n, W n a1 a2 a3 a4 a5 a6 a7 :=
  loop_m (σ := A1 × A2 × A3 × A4 × A5 × A6 × A7) (fun n s => W n s.1 s.2.1 s.2.2.1 s.2.2.2.1 s.2.2.2.2.1 s.2.2.2.2.2.1 s.2.2.2.2.2.2) (fun s => I s.1 s.2.1 s.2.2.1 s.2.2.2.1 s.2.2.2.2.1 s.2.2.2.2.2.1 s.2.2.2.2.2.2) (fun s => μ s.1 s.2.1 s.2.2.1 s.2.2.2.1 s.2.2.2.2.1 s.2.2.2.2.2.1 s.2.2.2.2.2.2) (fun n s hI hk => hs n s.1 s.2.1 s.2.2.1 s.2.2.2.1 s.2.2.2.2.1 s.2.2.2.2.2.1 s.2.2.2.2.2.2 hI (fun b1 b2 b3 b4 b5 b6 b7 h9 hm => hk (b1, b2, b3, b4, b5, b6, b7) h9 hm)) (a1, a2, a3, a4, a5, a6, a7) h
theorem lp8 {A1 A2 A3 A4 A5 A6 A7 A8 : Type} (W : Nat → A1 → A2 → A3 → A4 → A5 → A6 → A7 → A8 → Prop) (I : A1 → A2 → A3 → A4 → A5 → A6 → A7 → A8 → Prop) (μ : A1 → A2 → A3 → A4 → A5 → A6 → A7 → A8 → Nat) (hs : ∀ (n : Nat) (a1 : A1) (a2 : A2) (a3 : A3) (a4 : A4) (a5 : A5) (a6 : A6) (a7 : A7) (a8 : A8), I a1 a2 a3 a4 a5 a6 a7 a8 → (∀ (b1 : A1) (b2 : A2) (b3 : A3) (b4 : A4) (b5 : A5) (b6 : A6) (b7 : A7) (b8 : A8), I b1 b2 b3 b4 b5 b6 b7 b8 → μ b1 b2 b3 b4 b5 b6 b7 b8 < μ a1 a2 a3 a4 a5 a6 a7 a8 → W n b1 b2 b3 b4 b5 b6 b7 b8) → W (n + 1) a1 a2 a3 a4 a5 a6 a7 a8) (a1 : A1) (a2 : A2) (a3 : A3) (a4 : A4) (a5 : A5) (a6 : A6) (a7 : A7) (a8 : A8) (h : I a1 a2 a3 a4 a5 a6 a7 a8) : ∃ n, W n a1 a2 a3 a4 a5 a6 a7 a8 :=
  loop_m (σ := A1 × A2 × A3 × A4 × A5 × A6 × A7 × A8) (fun n s => W n s.1 s.2.1 s.2.2.1 s.2.2.2.1 s.2.2.2.2.1 s.2.2.2.2.2.1 s.2.2.2.2.2.2.1 s.2.2.2.2.2.2.2) (fun s => I s.1 s.2.1 s.2.2.1 s.2.2.2.1 s.2.2.2.2.1 s.2.2.2.2.2.1 s.2.2.2.2.2.2.1 s.2.2.2.2.2.2.2) (fun s => μ s.1 s.2.1 s.2.2.1 s.2.2.2.1 s.2.2.2.2.1 s.2.2.2.2.2.1 s.2.2.2.2.2.2.1 s.2.2.2.2.2.2.2) (fun n s hI hk => hs n s.1 s.2.1 s.2.2.1 s.2.2.2.1 s.2.2.2.2.1 s.2.2.2.2.2.1 s.2.2.2.2.2.2.1 s.2.2.2.2.2.2.2 hI (fun b1 b2 b3 b4 b5 b6 b7 b8 h9 hm => hk (b1, b2, b3, b4, b5, b6, b7, b8) h9 hm)) (a1, a2, a3, a4, a5, a6, a7, a8) h
theorem lp9 {A1 A2 A3 A4 A5 A6 A7 A8 A9 : Type} (W : Nat → A1 → A2 → A3 → A4 → A5 → A6 → A7 → A8 → A9 → Prop) (I : A1 → A2 → A3 → A4 → A5 → A6 → A7 → A8 → A9 → Prop) (μ : A1 → A2 → A3 → A4 → A5 → A6 → A7 → A8 → A9 → Nat) (hs : ∀ (n : Nat) (a1 : A1) (a2 : A2) (a3 : A3) (a4 : A4) (a5 : A5) (a6 : A6) (a7 : A7) (a8 : A8) (a9 : A9), I a1 a2 a3 a4 a5 a6 a7 a8 a9 → (∀ (b1 : A1) (b2 : A2) (b3 : A3) (b4 : A4) (b5 : A5) (b6 : A6) (b7 : A7) (b8 : A8) (b9 : A9), I b1 b2 b3 b4 b5 b6 b7 b8 b9 → μ b1 b2 b3 b4 b5 b6 b7 b8 b9 < μ a1 a2 a3 a4 a5 a6 a7 a8 a9 → W n b1 b2 b3 b4 b5 b6 b7 b8 b9) → W (n + 1) a1 a2 a3 a4 a5 a6 a7 a8 a9) (a1 : A1) (a2 : A2) (a3 : A3) (a4 : A4) (a5 : A5) (a6 : A6) (a7 : A7) (a8 : A8) (a9 : A9) (h : I a1 a2 a3 a4 a5 a6 a7 a8 a9) : ∃ n, W n a1 a2 a3 a4 a5 a6 a7 a8 a9 :=
  loop_m (σ := A1 × A2 × A3 × A4 × A5 × A6 × A7 × A8 × A9) (fun n s => W n s.1 s.2.1 s.2.2.1 s.2.2.2.1 s.2.2.2.2.1 s.2.2.2.2.2.1 s.2.2.2.2.2.2.1 s.2.2.2.2.2.2.2.1 s.2.2.2.2.2.2.2.2) (fun s => I s.1 s.2.1 s.2.2.1 s.2.2.2.1 s.2.2.2.2.1 s.2.2.2.2.2.1 s.2.2.2.2.2.2.1 s.2.2.2.2.2.2.2.1 s.2.2.2.2.2.2.2.2) (fun s => μ s.1 s.2.1 s.2.2.1 s.2.2.2.1 s.2.2.2.2.1 s.2.2.2.2.2.1 s.2.2.2.2.2.2.1 s.2.2.2.2.2.2.2.1 s.2.2.2.2.2.2.2.2) (fun n s hI hk => hs n s.1 s.2.1 s.2.2.1 s.2.2.2.1 s.2.2.2.2.1 s.2.2.2.2.2.1 s.2.2.2.2.2.2.1 s.2.2.2.2.2.2.2.1 s.2.2.2.2.2.2.2.2 hI (fun b1 b2 b3 b4 b5 b6 b7 b8 b9 h9 hm => hk (b1, b2, b3, b4, b5, b6, b7, b8, b9) h9 hm)) (a1, a2, a3, a4, a5, a6, a7, a8, a9) h
theorem lp10 {A1 A2 A3 A4 A5 A6 A7 A8 A9 A10 : Type} (W : Nat → A1 → A2 → A3 → A4 → A5 → A6 → A7 → A8 → A9 → A10 → Prop) (I : A1 → A2 → A3 → A4 → A5 → A6 → A7 → A8 → A9 → A10 → Prop) (μ : A1 → A2 → A3 → A4 → A5 → A6 → A7 → A8 → A9 → A10 → Nat) (hs : ∀ (n : Nat) (a1 : A1) (a2 : A2) (a3 : A3) (a4 : A4) (a5 : A5) (a6 : A6) (a7 : A7) (a8 : A8) (a9 : A9) (a10 : A10), I a1 a2 a3 a4 a5 a6 a7 a8 a9 a10 → (∀ (b1 : A1) (b2 : A2) (b3 : A3) (b4 : A4) (b5 : A5) (b6 : A6) (b7 : A7) (b8 : A8) (b9 : A9) (b10 : A10), I b1 b2 b3 b4 b5 b6 b7 b8 b9 b10 → μ b1 b2 b3 b4 b5 b6 b7 b8 b9 b10 < μ a1 a2 a3 a4 a5 a6 a7 a8 a9 a10 → W n b1 b2 b3 b4 b5 b6 b7 b8 b9 b10) → W (n + 1) a1 a2 a3 a4 a5 a6 a7 a8 a9 a10) (a1 : A1) (a2 : A2) (a3 : A3) (a4 : A4) (a5 : A5) (a6 : A6) (a7 : A7) (a8 : A8) (a9 : A9) (a10 : A10) (h : I a1 a2 a3 a4 a5 a6 a7 a8 a9 a10) : ∃ n, W n a1 a2 a3 a4 a5 a6 a7 a8 a9 a10 :=
  loop_m (σ := A1 × A2 × A3 × A4 × A5 × A6 × A7 × A8 × A9 × A10) (fun n s => W n s.1 s.2.1 s.2.2.1 s.2.2.2.1 s.2.2.2.2.1 s.2.2.2.2.2.1 s.2.2.2.2.2.2.1 s.2.2.2.2.2.2.2.1 s.2.2.2.2.2.2.2.2.1 s.2.2.2.2.2.2.2.2.2) (fun s => I s.1 s.2.1 s.2.2.1 s.2.2.2.1 s.2.2.2.2.1 s.2.2.2.2.2.1 s.2.2.2.2.2.2.1 s.2.2.2.2.2.2.2.1 s.2.2.2.2.2.2.2.2.1 s.2.2.2.2.2.2.2.2.2) (fun s => μ s.1 s.2.1 s.2.2.1 s.2.2.2.1 s.2.2.2.2.1 s.2.2.2.2.2.1 s.2.2.2.2.2.2.1 s.2.2.2.2.2.2.2.1 s.2.2.2.2.2.2.2.2.1 s.2.2.2.2.2.2.2.2.2) (fun n s hI hk => hs n s.1 s.2.1 s.2.2.1 s.2.2.2.1 s.2.2.2.2.1 s.2.2.2.2.2.1 s.2.2.2.2.2.2.1 s.2.2.2.2.2.2.2.1 s.2.2.2.2.2.2.2.2.1 s.2.2.2.2.2.2.2.2.2 hI (fun b1 b2 b3 b4 b5 b6 b7 b8 b9 b10 h9 hm => hk (b1, b2, b3, b4, b5, b6, b7, b8, b9, b10) h9 hm)) (a1, a2, a3, a4, a5, a6, a7, a8, a9, a10) h
theorem lp11 {A1 A2 A3 A4 A5 A6 A7 A8 A9 A10 A11 : Type} (W : Nat → A1 → A2 → A3 → A4 → A5 → A6 → A7 → A8 → A9 → A10 → A11 → Prop) (I : A1 → A2 → A3 → A4 → A5 → A6 → A7 → A8 → A9 → A10 → A11 → Prop) (μ : A1 → A2 → A3 → A4 → A5 → A6 → A7 → A8 → A9 → A10 → A11 → Nat) (hs : ∀ (n : Nat) (a1 : A1) (a2 : A2) (a3 : A3) (a4 : A4) (a5 : A5) (a6 : A6) (a7 : A7) (a8 : A8) (a9 : A9) (a10 : A10) (a11 : A11), I a1 a2 a3 a4 a5 a6 a7 a8 a9 a10 a11 → (∀ (b1 : A1) (b2 : A2) (b3 : A3) (b4 : A4) (b5 : A5) (b6 : A6) (b7 : A7) (b8 : A8) (b9 : A9) (b10 : A10) (b11 : A11), I b1 b2 b3 b4 b5 b6 b7 b8 b9 b10 b11 → μ b1 b2 b3 b4 b5 b6 b7 b8 b9 b10 b11 < μ a1 a2 a3 a4 a5 a6 a7 a8 a9 a10 a11 → W n b1 b2 b3 b4 b5 b6 b7 b8 b9 b10 b11) → W (n + 1) a1 a2 a3 a4 a5 a6 a7 a8 a9 a10 a11) (a1 : A1) (a2 : A2) (a3 : A3) (a4 : A4) (a5 : A5) (a6 : A6) (a7 : A7) (a8 : A8) (a9 : A9) (a10 : A10) (a11 : A11) (h : I a1 a2 a3 a4 a5 a6 a7 a8 a9 a10 a11) : ∃ n, W n a1 a2 a3 a4 a5 a6 a7 a8 a9 a10 a11 :=
  loop_m (σ := A1 × A2 × A3 × A4 × A5 × A6 × A7 × A8 × A9 × A10 × A11) (fun n s => W n s.1 s.2.1 s.2.2.1 s.2.2.2.1 s.2.2.2.2.1 s.2.2.2.2.2.1 s.2.2.2.2.2.2.1 s.2.2.2.2.2.2.2.1 s.2.2.2.2.2.2.2.2.1 s.2.2.2.2.2.2.2.2.2.1 s.2.2.2.2.2.2.2.2.2.2) (fun s => I s.1 s.2.1 s.2.2.1 s.2.2.2.1 s.2.2.2.2.1 s.2.2.2.2.2.1 s.2.2.2.2.2.2.1 s.2.2.2.2.2.2.2.1 s.2.2.2.2.2.2.2.2.1 s.2.2.2.2.2.2.2.2.2.1 s.2.2.2.2.2.2.2.2.2.2) (fun s => μ s.1 s.2.1 s.2.2.1 s.2.2.2.1 s.2.2.2.2.1 s.2.2.2.2.2.1 s.2.2.2.2.2.2.1 s.2.2.2.2.2.2.2.1 s.2.2.2.2.2.2.2.2.1 s.2.2.2.2.2.2.2.2.2.1 s.2.2.2.2.2.2.2.2.2.2) (fun n s hI hk => hs n s.1 s.2.1 s.2.2.1 s.2.2.2.1 s.2.2.2.2.1 s.2.2.2.2.2.1 s.2.2.2.2.2.2.1 s.2.2.2.2.2.2.2.1 s.2.2.2.2.2.2.2.2.1 s.2.2.2.2.2.2.2.2.2.1 s.2.2.2.2.2.2.2.2.2.2 hI (fun b1 b2 b3 b4 b5 b6 b7 b8 b9 b10 b11 h9 hm => hk (b1, b2, b3, b4, b5, b6, b7, b8, b9, b10, b11) h9 hm)) (a1, a2, a3, a4, a5, a6, a7, a8, a9, a10, a11) h
theorem lp12 {A1 A2 A3 A4 A5 A6 A7 A8 A9 A10 A11 A12 : Type} (W : Nat → A1 → A2 → A3 → A4 → A5 → A6 → A7 → A8 → A9 → A10 → A11 → A12 → Prop) (I : A1 → A2 → A3 → A4 → A5 → A6 → A7 → A8 → A9 → A10 → A11 → A12 → Prop) (μ : A1 → A2 → A3 → A4 → A5 → A6 → A7 → A8 → A9 → A10 → A11 → A12 → Nat) (hs : ∀ (n : Nat) (a1 : A1) (a2 : A2) (a3 : A3) (a4 : A4) (a5 : A5) (a6 : A6) (a7 : A7) (a8 : A8) (a9 : A9) (a10 : A10) (a11 : A11) (a12 : A12), I a1 a2 a3 a4 a5 a6 a7 a8 a9 a10 a11 a12 → (∀ (b1 : A1) (b2 : A2) (b3 : A3) (b4 : A4) (b5 : A5) (b6 : A6) (b7 : A7) (b8 : A8) (b9 : A9) (b10 : A10) (b11 : A11) (b12 : A12), I b1 b2 b3 b4 b5 b6 b7 b8 b9 b10 b11 b12 → μ b1 b2 b3 b4 b5 b6 b7 b8 b9 b10 b11 b12 < μ a1 a2 a3 a4 a5 a6 a7 a8 a9 a10 a11 a12 → W n b1 b2 b3 b4 b5 b6 b7 b8 b9 b10 b11 b12) → W (n + 1) a1 a2 a3 a4 a5 a6 a7 a8 a9 a10 a11 a12) (a1 : A1) (a2 : A2) (a3 : A3) (a4 : A4) (a5 : A5) (a6 : A6) (a7 : A7) (a8 : A8) (a9 : A9) (a10 : A10) (a11 : A11) (a12 : A12) (h : I a1 a2 a3 a4 a5 a6 a7 a8 a9 a10 a11 a12) : ∃ n, W n a1 a2 a3 a4 a5 a6 a7 a8 a9 a10 a11 a12 :=
  loop_m (σ := A1 × A2 × A3 × A4 × A5 × A6 × A7 × A8 × A9 × A10 × A11 × A12) (fun n s => W n s.1 s.2.1 s.2.2.1 s.2.2.2.1 s.2.2.2.2.1 s.2.2.2.2.2.1 s.2.2.2.2.2.2.1 s.2.2.2.2.2.2.2.1 s.2.2.2.2.2.2.2.2.1 s.2.2.2.2.2.2.2.2.2.1 s.2.2.2.2.2.2.2.2.2.2.1 s.2.2.2.2.2.2.2.2.2.2.2) (fun s => I s.1 s.2.1 s.2.2.1 s.2.2.2.1 s.2.2.2.2.1 s.2.2.2.2.2.1 s.2.2.2.2.2.2.1 s.2.2.2.2.2.2.2.1 s.2.2.2.2.2.2.2.2.1 s.2.2.2.2.2.2.2.2.2.1 s.2.2.2.2.2.2.2.2.2.2.1 s.2.2.2.2.2.2.2.2.2.2.2) (fun s => μ s.1 s.2.1 s.2.2.1 s.2.2.2.1 s.2.2.2.2.1 s.2.2.2.2.2.1 s.2.2.2.2.2.2.1 s.2.2.2.2.2.2.2.1 s.2.2.2.2.2.2.2.2.1 s.2.2.2.2.2.2.2.2.2.1 s.2.2.2.2.2.2.2.2.2.2.1 s.2.2.2.2.2.2.2.2.2.2.2) (fun n s hI hk => hs n s.1 s.2.1 s.2.2.1 s.2.2.2.1 s.2.2.2.2.1 s.2.2.2.2.2.1 s.2.2.2.2.2.2.1 s.2.2.2.2.2.2.2.1 s.2.2.2.2.2.2.2.2.1 s.2.2.2.2.2.2.2.2.2.1 s.2.2.2.2.2.2.2.2.2.2.1 s.2.2.2.2.2.2.2.2.2.2.2 hI (fun b1 b2 b3 b4 b5 b6 b7 b8 b9 b10 b11 b12 h9 hm => hk (b1, b2, b3, b4, b5, b6, b7, b8, b9, b10, b11, b12) h9 hm)) (a1, a2, a3, a4, a5, a6, a7, a8, a9, a10, a11, a12) h
theorem lp13 {A1 A2 A3 A4 A5 A6 A7 A8 A9 A10 A11 A12 A13 : Type} (W : Nat → A1 → A2 → A3 → A4 → A5 → A6 → A7 → A8 → A9 → A10 → A11 → A12 → A13 → Prop) (I : A1 → A2 → A3 → A4 → A5 → A6 → A7 → A8 → A9 → A10 → A11 → A12 → A13 → Prop) (μ : A1 → A2 → A3 → A4 → A5 → A6 → A7 → A8 → A9 → A10 → A11 → A12 → A13 → Nat) (hs : ∀ (n : Nat) (a1 : A1) (a2 : A2) (a3 : A3) (a4 : A4) (a5 : A5) (a6 : A6) (a7 : A7) (a8 : A8) (a9 : A9) (a10 : A10) (a11 : A11) (a12 : A12) (a13 : A13), I a1 a2 a3 a4 a5 a6 a7 a8 a9 a10 a11 a12 a13 → (∀ (b1 : A1) (b2 : A2) (b3 : A3) (b4 : A4) (b5 : A5) (b6 : A6) (b7 : A7) (b8 : A8) (b9 : A9) (b10 : A10) (b11 : A11) (b12 : A12) (b13 : A13), I b1 b2 b3 b4 b5 b6 b7 b8 b9 b10 b11 b12 b13 → μ b1 b2 b3 b4 b5 b6 b7 b8 b9 b10 b11 b12 b13 < μ a1 a2 a3 a4 a5 a6 a7 a8 a9 a10 a11 a12 a13 → W n b1 b2 b3 b4 b5 b6 b7 b8 b9 b10 b11 b12 b13) → W (n + 1) a1 a2 a3 a4 a5 a6 a7 a8 a9 a10 a11 a12 a13) (a1 : A1) (a2 : A2) (a3 : A3) (a4 : A4) (a5 : A5) (a6 : A6) (a7 : A7) (a8 : A8) (a9 : A9) (a10 : A10) (a11 : A11) (a12 : A12) (a13 : A13) (h : I a1 a2 a3 a4 a5 a6 a7 a8 a9 a10 a11 a12 a13) : ∃ n, W n a1 a2 a3 a4 a5 a6 a7 a8 a9 a10 a11 a12 a13 :=
  loop_m (σ := A1 × A2 × A3 × A4 × A5 × A6 × A7 × A8 × A9 × A10 × A11 × A12 × A13) (fun n s => W n s.1 s.2.1 s.2.2.1 s.2.2.2.1 s.2.2.2.2.1 s.2.2.2.2.2.1 s.2.2.2.2.2.2.1 s.2.2.2.2.2.2.2.1 s.2.2.2.2.2.2.2.2.1 s.2.2.2.2.2.2.2.2.2.1 s.2.2.2.2.2.2.2.2.2.2.1 s.2.2.2.2.2.2.2.2.2.2.2.1 s.2.2.2.2.2.2.2.2.2.2.2.2) (fun s => I s.1 s.2.1 s.2.2.1 s.2.2.2.1 s.2.2.2.2.1 s.2.2.2.2.2.1 s.2.2.2.2.2.2.1 s.2.2.2.2.2.2.2.1 s.2.2.2.2.2.2.2.2.1 s.2.2.2.2.2.2.2.2.2.1 s.2.2.2.2.2.2.2.2.2.2.1 s.2.2.2.2.2.2.2.2.2.2.2.1 s.2.2.2.2.2.2.2.2.2.2.2.2) (fun s => μ s.1 s.2.1 s.2.2.1 s.2.2.2.1 s.2.2.2.2.1 s.2.2.2.2.2.1 s.2.2.2.2.2.2.1 s.2.2.2.2.2.2.2.1 s.2.2.2.2.2.2.2.2.1 s.2.2.2.2.2.2.2.2.2.1 s.2.2.2.2.2.2.2.2.2.2.1 s.2.2.2.2.2.2.2.2.2.2.2.1 s.2.2.2.2.2.2.2.2.2.2.2.2) (fun n s hI hk => hs n s.1 s.2.1 s.2.2.1 s.2.2.2.1 s.2.2.2.2.1 s.2.2.2.2.2.1 s.2.2.2.2.2.2.1 s.2.2.2.2.2.2.2.1 s.2.2.2.2.2.2.2.2.1 s.2.2.2.2.2.2.2.2.2.1 s.2.2.2.2.2.2.2.2.2.2.1 s.2.2.2.2.2.2.2.2.2.2.2.1 s.2.2.2.2.2.2.2.2.2.2.2.2 hI (fun b1 b2 b3 b4 b5 b6 b7 b8 b9 b10 b11 b12 b13 h9 hm => hk (b1, b2, b3, b4, b5, b6, b7, b8, b9, b10, b11, b12, b13) h9 hm)) (a1, a2, a3, a4, a5, a6, a7, a8, a9, a10, a11, a12, a13) h
theorem lp14 {A1 A2 A3 A4 A5 A6 A7 A8 A9 A10 A11 A12 A13 A14 : Type} (W : Nat → A1 → A2 → A3 → A4 → A5 → A6 → A7 → A8 → A9 → A10 → A11 → A12 → A13 → A14 → Prop) (I : A1 → A2 → A3 → A4 → A5 → A6 → A7 → A8 → A9 → A10 → A11 → A12 → A13 → A14 → Prop) (μ : A1 → A2 → A3 → A4 → A5 → A6 → A7 → A8 → A9 → A10 → A11 → A12 → A13 → A14 → Nat) (hs : ∀ (n : Nat) (a1 : A1) (a2 : A2) (a3 : A3) (a4 : A4) (a5 : A5) (a6 : A6) (a7 : A7) (a8 : A8) (a9 : A9) (a10 : A10) (a11 : A11) (a12 : A12) (a13 : A13) (a14 : A14), I a1 a2 a3 a4 a5 a6 a7 a8 a9 a10 a11 a12 a13 a14 → (∀ (b1 : A1) (b2 : A2) (b3 : A3) (b4 : A4) (b5 : A5) (b6 : A6) (b7 : A7) (b8 : A8) (b9 : A9) (b10 : A10) (b11 : A11) (b12 : A12) (b13 : A13) (b14 : A14), I b1 b2 b3 b4 b5 b6 b7 b8 b9 b10 b11 b12 b13 b14 → μ b1 b2 b3 b4 b5 b6 b7 b8 b9 b10 b11 b12 b13 b14 < μ a1 a2 a3 a4 a5 a6 a7 a8 a9 a10 a11 a12 a13 a14 → W n b1 b2 b3 b4 b5 b6 b7 b8 b9 b10 b11 b12 b13 b14) → W (n + 1) a1 a2 a3 a4 a5 a6 a7 a8 a9 a10 a11 a12 a13 a14) (a1 : A1) (a2 : A2) (a3 : A3) (a4 : A4) (a5 : A5) (a6 : A6) (a7 : A7) (a8 : A8) (a9 : A9) (a10 : A10) (a11 : A11) (a12 : A12) (a13 : A13) (a14 : A14) (h : I a1 a2 a3 a4 a5 a6 a7 a8 a9 a10 a11 a12 a13 a14) : ∃ n, W n a1 a2 a3 a4 a5 a6 a7 a8 a9 a10 a11 a12 a13 a14 :=
  loop_m (σ := A1 × A2 × A3 × A4 × A5 × A6 × A7 × A8 × A9 × A10 × A11 × A12 × A13 × A14) (fun n s => W n s.1 s.2.1 s.2.2.1 s.2.2.2.1 s.2.2.2.2.1 s.2.2.2.2.2.1 s.2.2.2.2.2.2.1 s.2.2.2.2.2.2.2.1 s.2.2.2.2.2.2.2.2.1 s.2.2.2.2.2.2.2.2.2.1 s.2.2.2.2.2.2.2.2.2.2.1 s.2.2.2.2.2.2.2.2.2.2.2.1 s.2.2.2.2.2.2.2.2.2.2.2.2.1 s.2.2.2.2.2.2.2.2.2.2.2.2.2) (fun s => I s.1 s.2.1 s.2.2.1 s.2.2.2.1 s.2.2.2.2.1 s.2.2.2.2.2.1 s.2.2.2.2.2.2.1 s.2.2.2.2.2.2.2.1 s.2.2.2.2.2.2.2.2.1 s.2.2.2.2.2.2.2.2.2.1 s.2.2.2.2.2.2.2.2.2.2.1 s.2.2.2.2.2.2.2.2.2.2.2.1 s.2.2.2.2.2.2.2.2.2.2.2.2.1 s.2.2.2.2.2.2.2.2.2.2.2.2.2) (fun s => μ s.1 s.2.1 s.2.2.1 s.2.2.2.1 s.2.2.2.2.1 s.2.2.2.2.2.1 s.2.2.2.2.2.2.1 s.2.2.2.2.2.2.2.1 s.2.2.2.2.2.2.2.2.1 s.2.2.2.2.2.2.2.2.2.1 s.2.2.2.2.2.2.2.2.2.2.1 s.2.2.2.2.2.2.2.2.2.2.2.1 s.2.2.2.2.2.2.2.2.2.2.2.2.1 s.2.2.2.2.2.2.2.2.2.2.2.2.2) (fun n s hI hk => hs n s.1 s.2.1 s.2.2.1 s.2.2.2.1 s.2.2.2.2.1 s.2.2.2.2.2.1 s.2.2.2.2.2.2.1 s.2.2.2.2.2.2.2.1 s.2.2.2.2.2.2.2.2.1 s.2.2.2.2.2.2.2.2.2.1 s.2.2.2.2.2.2.2.2.2.2.1 s.2.2.2.2.2.2.2.2.2.2.2.1 s.2.2.2.2.2.2.2.2.2.2.2.2.1 s.2.2.2.2.2.2.2.2.2.2.2.2.2 hI (fun b1 b2 b3 b4 b5 b6 b7 b8 b9 b10 b11 b12 b13 b14 h9 hm => hk (b1, b2, b3, b4, b5, b6, b7, b8, b9, b10, b11, b12, b13, b14) h9 hm)) (a1, a2, a3, a4, a5, a6, a7, a8, a9, a10, a11, a12, a13, a14) h
theorem lp15 {A1 A2 A3 A4 A5 A6 A7 A8 A9 A10 A11 A12 A13 A14 A15 : Type} (W : Nat → A1 → A2 → A3 → A4 → A5 → A6 → A7 → A8 → A9 → A10 → A11 → A12 → A13 → A14 → A15 → Prop) (I : A1 → A2 → A3 → A4 → A5 → A6 → A7 → A8 → A9 → A10 → A11 → A12 → A13 → A14 → A15 → Prop) (μ : A1 → A2 → A3 → A4 → A5 → A6 → A7 → A8 → A9 → A10 → A11 → A12 → A13 → A14 → A15 → Nat) (hs : ∀ (n : Nat) (a1 : A1) (a2 : A2) (a3 : A3) (a4 : A4) (a5 : A5) (a6 : A6) (a7 : A7) (a8 : A8) (a9 : A9) (a10 : A10) (a11 : A11) (a12 : A12) (a13 : A13) (a14 : A14) (a15 : A15), I a1 a2 a3 a4 a5 a6 a7 a8 a9 a10 a11 a12 a13 a14 a15 → (∀ (b1 : A1) (b2 : A2) (b3 : A3) (b4 : A4) (b5 : A5) (b6 : A6) (b7 : A7) (b8 : A8) (b9 : A9) (b10 : A10) (b11 : A11) (b12 : A12) (b13 : A13) (b14 : A14) (b15 : A15), I b1 b2 b3 b4 b5 b6 b7 b8 b9 b10 b11 b12 b13 b14 b15 → μ b1 b2 b3 b4 b5 b6 b7 b8 b9 b10 b11 b12 b13 b14 b15 < μ a1 a2 a3 a4 a5 a6 a7 a8 a9 a10 a11 a12 a13 a14 a15 → W n b1 b2 b3 b4 b5 b6 b7 b8 b9 b10 b11 b12 b13 b14 b15) → W (n + 1) a1 a2 a3 a4 a5 a6 a7 a8 a9 a10 a11 a12 a13 a14 a15) (a1 : A1) (a2 : A2) (a3 : A3) (a4 : A4) (a5 : A5) (a6 : A6) (a7 : A7) (a8 : A8) (a9 : A9) (a10 : A10) (a11 : A11) (a12 : A12) (a13 : A13) (a14 : A14) (a15 : A15) (h : I a1 a2 a3 a4 a5 a6 a7 a8 a9 a10 a11 a12 a13 a14 a15) : ∃ n, W n a1 a2 a3 a4 a5 a6 a7 a8 a9 a10 a11 a12 a13 a14 a15 :=
  loop_m (σ := A1 × A2 × A3 × A4 × A5 × A6 × A7 × A8 × A9 × A10 × A11 × A12 × A13 × A14 × A15) (fun n s => W n s.1 s.2.1 s.2.2.1 s.2.2.2.1 s.2.2.2.2.1 s.2.2.2.2.2.1 s.2.2.2.2.2.2.1 s.2.2.2.2.2.2.2.1 s.2.2.2.2.2.2.2.2.1 s.2.2.2.2.2.2.2.2.2.1 s.2.2.2.2.2.2.2.2.2.2.1 s.2.2.2.2.2.2.2.2.2.2.2.1 s.2.2.2.2.2.2.2.2.2.2.2.2.1 s.2.2.2.2.2.2.2.2.2.2.2.2.2.1 s.2.2.2.2.2.2.2.2.2.2.2.2.2.2) (fun s => I s.1 s.2.1 s.2.2.1 s.2.2.2.1 s.2.2.2.2.1 s.2.2.2.2.2.1 s.2.2.2.2.2.2.1 s.2.2.2.2.2.2.2.1 s.2.2.2.2.2.2.2.2.1 s.2.2.2.2.2.2.2.2.2.1 s.2.2.2.2.2.2.2.2.2.2.1 s.2.2.2.2.2.2.2.2.2.2.2.1 s.2.2.2.2.2.2.2.2.2.2.2.2.1 s.2.2.2.2.2.2.2.2.2.2.2.2.2.1 s.2.2.2.2.2.2.2.2.2.2.2.2.2.2) (fun s => μ s.1 s.2.1 s.2.2.1 s.2.2.2.1 s.2.2.2.2.1 s.2.2.2.2.2.1 s.2.2.2.2.2.2.1 s.2.2.2.2.2.2.2.1 s.2.2.2.2.2.2.2.2.1 s.2.2.2.2.2.2.2.2.2.1 s.2.2.2.2.2.2.2.2.2.2.1 s.2.2.2.2.2.2.2.2.2.2.2.1 s.2.2.2.2.2.2.2.2.2.2.2.2.1 s.2.2.2.2.2.2.2.2.2.2.2.2.2.1 s.2.2.2.2.2.2.2.2.2.2.2.2.2.2) (fun n s hI hk => hs n s.1 s.2.1 s.2.2.1 s.2.2.2.1 s.2.2.2.2.1 s.2.2.2.2.2.1 s.2.2.2.2.2.2.1 s.2.2.2.2.2.2.2.1 s.2.2.2.2.2.2.2.2.1 s.2.2.2.2.2.2.2.2.2.1 s.2.2.2.2.2.2.2.2.2.2.1 s.2.2.2.2.2.2.2.2.2.2.2.1 s.2.2.2.2.2.2.2.2.2.2.2.2.1 s.2.2.2.2.2.2.2.2.2.2.2.2.2.1 s.2.2.2.2.2.2.2.2.2.2.2.2.2.2 hI (fun b1 b2 b3 b4 b5 b6 b7 b8 b9 b10 b11 b12 b13 b14 b15 h9 hm => hk (b1, b2, b3, b4, b5, b6, b7, b8, b9, b10, b11, b12, b13, b14, b15) h9 hm)) (a1, a2, a3, a4, a5, a6, a7, a8, a9, a10, a11, a12, a13, a14, a15) h
theorem lp16 {A1 A2 A3 A4 A5 A6 A7 A8 A9 A10 A11 A12 A13 A14 A15 A16 : Type} (W : Nat → A1 → A2 → A3 → A4 → A5 → A6 → A7 → A8 → A9 → A10 → A11 → A12 → A13 → A14 → A15 → A16 → Prop) (I : A1 → A2 → A3 → A4 → A5 → A6 → A7 → A8 → A9 → A10 → A11 → A12 → A13 → A14 → A15 → A16 → Prop) (μ : A1 → A2 → A3 → A4 → A5 → A6 → A7 → A8 → A9 → A10 → A11 → A12 → A13 → A14 → A15 → A16 → Nat) (hs : ∀ (n : Nat) (a1 : A1) (a2 : A2) (a3 : A3) (a4 : A4) (a5 : A5) (a6 : A6) (a7 : A7) (a8 : A8) (a9 : A9) (a10 : A10) (a11 : A11) (a12 : A12) (a13 : A13) (a14 : A14) (a15 : A15) (a16 : A16), I a1 a2 a3 a4 a5 a6 a7 a8 a9 a10 a11 a12 a13 a14 a15 a16 → (∀ (b1 : A1) (b2 : A2) (b3 : A3) (b4 : A4) (b5 : A5) (b6 : A6) (b7 : A7) (b8 : A8) (b9 : A9) (b10 : A10) (b11 : A11) (b12 : A12) (b13 : A13) (b14 : A14) (b15 : A15) (b16 : A16), I b1 b2 b3 b4 b5 b6 b7 b8 b9 b10 b11 b12 b13 b14 b15 b16 → μ b1 b2 b3 b4 b5 b6 b7 b8 b9 b10 b11 b12 b13 b14 b15 b16 < μ a1 a2 a3 a4 a5 a6 a7 a8 a9 a10 a11 a12 a13 a14 a15 a16 → W n b1 b2 b3 b4 b5 b6 b7 b8 b9 b10 b11 b12 b13 b14 b15 b16) → W (n + 1) a1 a2 a3 a4 a5 a6 a7 a8 a9 a10 a11 a12 a13 a14 a15 a16) (a1 : A1) (a2 : A2) (a3 : A3) (a4 : A4) (a5 : A5) (a6 : A6) (a7 : A7) (a8 : A8) (a9 : A9) (a10 : A10) (a11 : A11) (a12 : A12) (a13 : A13) (a14 : A14) (a15 : A15) (a16 : A16) (h : I a1 a2 a3 a4 a5 a6 a7 a8 a9 a10 a11 a12 a13 a14 a15 a16) : ∃ n, W n a1 a2 a3 a4 a5 a6 a7 a8 a9 a10 a11 a12 a13 a14 a15 a16 :=
  loop_m (σ := A1 × A2 × A3 × A4 × A5 × A6 × A7 × A8 × A9 × A10 × A11 × A12 × A13 × A14 × A15 × A16) (fun n s => W n s.1 s.2.1 s.2.2.1 s.2.2.2.1 s.2.2.2.2.1 s.2.2.2.2.2.1 s.2.2.2.2.2.2.1 s.2.2.2.2.2.2.2.1 s.2.2.2.2.2.2.2.2.1 s.2.2.2.2.2.2.2.2.2.1 s.2.2.2.2.2.2.2.2.2.2.1 s.2.2.2.2.2.2.2.2.2.2.2.1 s.2.2.2.2.2.2.2.2.2.2.2.2.1 s.2.2.2.2.2.2.2.2.2.2.2.2.2.1 s.2.2.2.2.2.2.2.2.2.2.2.2.2.2.1 s.2.2.2.2.2.2.2.2.2.2.2.2.2.2.2) (fun s => I s.1 s.2.1 s.2.2.1 s.2.2.2.1 s.2.2.2.2.1 s.2.2.2.2.2.1 s.2.2.2.2.2.2.1 s.2.2.2.2.2.2.2.1 s.2.2.2.2.2.2.2.2.1 s.2.2.2.2.2.2.2.2.2.1 s.2.2.2.2.2.2.2.2.2.2.1 s.2.2.2.2.2.2.2.2.2.2.2.1 s.2.2.2.2.2.2.2.2.2.2.2.2.1 s.2.2.2.2.2.2.2.2.2.2.2.2.2.1 s.2.2.2.2.2.2.2.2.2.2.2.2.2.2.1 s.2.2.2.2.2.2.2.2.2.2.2.2.2.2.2) (fun s => μ s.1 s.2.1 s.2.2.1 s.2.2.2.1 s.2.2.2.2.1 s.2.2.2.2.2.1 s.2.2.2.2.2.2.1 s.2.2.2.2.2.2.2.1 s.2.2.2.2.2.2.2.2.1 s.2.2.2.2.2.2.2.2.2.1 s.2.2.2.2.2.2.2.2.2.2.1 s.2.2.2.2.2.2.2.2.2.2.2.1 s.2.2.2.2.2.2.2.2.2.2.2.2.1 s.2.2.2.2.2.2.2.2.2.2.2.2.2.1 s.2.2.2.2.2.2.2.2.2.2.2.2.2.2.1 s.2.2.2.2.2.2.2.2.2.2.2.2.2.2.2) (fun n s hI hk => hs n s.1 s.2.1 s.2.2.1 s.2.2.2.1 s.2.2.2.2.1 s.2.2.2.2.2.1 s.2.2.2.2.2.2.1 s.2.2.2.2.2.2.2.1 s.2.2.2.2.2.2.2.2.1 s.2.2.2.2.2.2.2.2.2.1 s.2.2.2.2.2.2.2.2.2.2.1 s.2.2.2.2.2.2.2.2.2.2.2.1 s.2.2.2.2.2.2.2.2.2.2.2.2.1 s.2.2.2.2.2.2.2.2.2.2.2.2.2.1 s.2.2.2.2.2.2.2.2.2.2.2.2.2.2.1 s.2.2.2.2.2.2.2.2.2.2.2.2.2.2.2 hI (fun b1 b2 b3 b4 b5 b6 b7 b8 b9 b10 b11 b12 b13 b14 b15 b16 h9 hm => hk (b1, b2, b3, b4, b5, b6, b7, b8, b9, b10, b11, b12, b13, b14, b15, b16) h9 hm)) (a1, a2, a3, a4, a5, a6, a7, a8, a9, a10, a11, a12, a13, a14, a15, a16) h
theorem pk_least (P : Nat → Prop) (h : ∃ k, P k) : ∃ k, P k ∧ ∀ j, j < k → ¬ P j := by
  obtain ⟨k, hk⟩ := h
  induction k using Nat.strongRecOn with
  | ind k ih =>
    by_cases e : ∃ j, j < k ∧ P j
    · obtain ⟨j, hj, pj⟩ := e
      exact ih j hj pj
    · exact ⟨k, hk, fun j hj pj => e ⟨j, hj, pj⟩⟩
theorem rp1 {ρ A1 : Type} (W : Nat → (ρ → Prop) → A1 → Prop) (ok : A1 → Prop) (μ : A1 → Nat) (val : A1 → ρ)
    (hs : ∀ (d : Nat) (post : ρ → Prop) (a1 : A1), ok a1 → post (val a1) → (∀ (post' : ρ → Prop) (b1 : A1), ok b1 → μ b1 < μ a1 → post' (val b1) → W d post' b1) → W (d + 1) post a1) :
    ∀ (d : Nat) (post : ρ → Prop) (a1 : A1), ok a1 → μ a1 < d → post (val a1) → W d post a1 := by
  intro d
  induction d with
  | zero => intro post a1 _ h; omega
  | succ d ih =>
    intro post a1 ho hm hp
    exact hs d post a1 ho hp (fun post' b1 ho' hm' hp' => ih post' b1 ho' (by omega) hp')
theorem rp2 {ρ A1 A2 : Type} (W : Nat → (ρ → Prop) → A1 → A2 → Prop) (ok : A1 → A2 → Prop) (μ : A1 → A2 → Nat) (val : A1 → A2 → ρ)
    (hs : ∀ (d : Nat) (post : ρ → Prop) (a1 : A1) (a2 : A2), ok a1 a2 → post (val a1 a2) → (∀ (post' : ρ → Prop) (b1 : A1) (b2 : A2), ok b1 b2 → μ b1 b2 < μ a1 a2 → post' (val b1 b2) → W d post' b1 b2) → W (d + 1) post a1 a2) :
    ∀ (d : Nat) (post : ρ → Prop) (a1 : A1) (a2 : A2), ok a1 a2 → μ a1 a2 < d → post (val a1 a2) → W d post a1 a2 := by
  intro d
  induction d with
  | zero => intro post a1 a2 _ h; omega
  | succ d ih =>
    intro post a1 a2 ho hm hp
    exact hs d post a1 a2 ho hp (fun post' b1 b2 ho' hm' hp' => ih post' b1 b2 ho' (by omega) hp')
theorem rp3 {ρ A1 A2 A3 : Type} (W : Nat → (ρ → Prop) → A1 → A2 → A3 → Prop) (ok : A1 → A2 → A3 → Prop) (μ : A1 → A2 → A3 → Nat) (val : A1 → A2 → A3 → ρ)
    (hs : ∀ (d : Nat) (post : ρ → Prop) (a1 : A1) (a2 : A2) (a3 : A3), ok a1 a2 a3 → post (val a1 a2 a3) → (∀ (post' : ρ → Prop) (b1 : A1) (b2 : A2) (b3 : A3), ok b1 b2 b3 → μ b1 b2 b3 < μ a1 a2 a3 → post' (val b1 b2 b3) → W d post' b1 b2 b3) → W (d + 1) post a1 a2 a3) :
    ∀ (d : Nat) (post : ρ → Prop) (a1 : A1) (a2 : A2) (a3 : A3), ok a1 a2 a3 → μ a1 a2 a3 < d → post (val a1 a2 a3) → W d post a1 a2 a3 := by
  intro d
  induction d with
  | zero => intro post a1 a2 a3 _ h; omega
  | succ d ih =>
    intro post a1 a2 a3 ho hm hp
    exact hs d post a1 a2 a3 ho hp (fun post' b1 b2 b3 ho' hm' hp' => ih post' b1 b2 b3 ho' (by omega) hp')
theorem rp4 {ρ A1 A2 A3 A4 : Type} (W : Nat → (ρ → Prop) → A1 → A2 → A3 → A4 → Prop) (ok : A1 → A2 → A3 → A4 → Prop) (μ : A1 → A2 → A3 → A4 → Nat) (val : A1 → A2 → A3 → A4 → ρ)
    (hs : ∀ (d : Nat) (post : ρ → Prop) (a1 : A1) (a2 : A2) (a3 : A3) (a4 : A4), ok a1 a2 a3 a4 → post (val a1 a2 a3 a4) → (∀ (post' : ρ → Prop) (b1 : A1) (b2 : A2) (b3 : A3) (b4 : A4), ok b1 b2 b3 b4 → μ b1 b2 b3 b4 < μ a1 a2 a3 a4 → post' (val b1 b2 b3 b4) → W d post' b1 b2 b3 b4) → W (d + 1) post a1 a2 a3 a4) :
    ∀ (d : Nat) (post : ρ → Prop) (a1 : A1) (a2 : A2) (a3 : A3) (a4 : A4), ok a1 a2 a3 a4 → μ a1 a2 a3 a4 < d → post (val a1 a2 a3 a4) → W d post a1 a2 a3 a4 := by
  intro d
  induction d with
  | zero => intro post a1 a2 a3 a4 _ h; omega
  | succ d ih =>
    intro post a1 a2 a3 a4 ho hm hp
    exact hs d post a1 a2 a3 a4 ho hp (fun post' b1 b2 b3 b4 ho' hm' hp' => ih post' b1 b2 b3 b4 ho' (by omega) hp')
theorem rp5 {ρ A1 A2 A3 A4 A5 : Type} (W : Nat → (ρ → Prop) → A1 → A2 → A3 → A4 → A5 → Prop) (ok : A1 → A2 → A3 → A4 → A5 → Prop) (μ : A1 → A2 → A3 → A4 → A5 → Nat) (val : A1 → A2 → A3 → A4 → A5 → ρ)
    (hs : ∀ (d : Nat) (post : ρ → Prop) (a1 : A1) (a2 : A2) (a3 : A3) (a4 : A4) (a5 : A5), ok a1 a2 a3 a4 a5 → post (val a1 a2 a3 a4 a5) → (∀ (post' : ρ → Prop) (b1 : A1) (b2 : A2) (b3 : A3) (b4 : A4) (b5 : A5), ok b1 b2 b3 b4 b5 → μ b1 b2 b3 b4 b5 < μ a1 a2 a3 a4 a5 → post' (val b1 b2 b3 b4 b5) → W d post' b1 b2 b3 b4 b5) → W (d + 1) post a1 a2 a3 a4 a5) :
    ∀ (d : Nat) (post : ρ → Prop) (a1 : A1) (a2 : A2) (a3 : A3) (a4 : A4) (a5 : A5), ok a1 a2 a3 a4 a5 → μ a1 a2 a3 a4 a5 < d → post (val a1 a2 a3 a4 a5) → W d post a1 a2 a3 a4 a5 := by
  intro d
  induction d with
  | zero => intro post a1 a2 a3 a4 a5 _ h; omega
  | succ d ih =>
    intro post a1 a2 a3 a4 a5 ho hm hp
    exact hs d post a1 a2 a3 a4 a5 ho hp (fun post' b1 b2 b3 b4 b5 ho' hm' hp' => ih post' b1 b2 b3 b4 b5 ho' (by omega) hp')
theorem rp6 {ρ A1 A2 A3 A4 A5 A6 : Type} (W : Nat → (ρ → Prop) → A1 → A2 → A3 → A4 → A5 → A6 → Prop) (ok : A1 → A2 → A3 → A4 → A5 → A6 → Prop) (μ : A1 → A2 → A3 → A4 → A5 → A6 → Nat) (val : A1 → A2 → A3 → A4 → A5 → A6 → ρ)
    (hs : ∀ (d : Nat) (post : ρ → Prop) (a1 : A1) (a2 : A2) (a3 : A3) (a4 : A4) (a5 : A5) (a6 : A6), ok a1 a2 a3 a4 a5 a6 → post (val a1 a2 a3 a4 a5 a6) → (∀ (post' : ρ → Prop) (b1 : A1) (b2 : A2) (b3 : A3) (b4 : A4) (b5 : A5) (b6 : A6), ok b1 b2 b3 b4 b5 b6 → μ b1 b2 b3 b4 b5 b6 < μ a1 a2 a3 a4 a5 a6 → post' (val b1 b2 b3 b4 b5 b6) → W d post' b1 b2 b3 b4 b5 b6) → W (d + 1) post a1 a2 a3 a4 a5 a6) :
    ∀ (d : Nat) (post : ρ → Prop) (a1 : A1) (a2 : A2) (a3 : A3) (a4 : A4) (a5 : A5) (a6 : A6), ok a1 a2 a3 a4 a5 a6 → μ a1 a2 a3 a4 a5 a6 < d → post (val a1 a2 a3 a4 a5 a6) → W d post a1 a2 a3 a4 a5 a6 := by
  intro d
  induction d with
  | zero => intro post a1 a2 a3 a4 a5 a6 _ h; omega
  | succ d ih =>
    intro post a1 a2 a3 a4 a5 a6 ho hm hp
    exact hs d post a1 a2 a3 a4 a5 a6 ho hp (fun post' b1 b2 b3 b4 b5 b6 ho' hm' hp' => ih post' b1 b2 b3 b4 b5 b6 ho' (by omega) hp')
theorem rec_p {σ ρ : Type} (W : Nat → (ρ → Prop) → σ → Prop) (ok : σ → Prop) (μ : σ → Nat) (val : σ → ρ)
    (hs : ∀ d s post, ok s → post (val s) → (∀ s' post', ok s' → μ s' < μ s → post' (val s') → W d post' s') → W (d + 1) post s) :
    ∀ d s post, ok s → μ s < d → post (val s) → W d post s := by
  intro d
  induction d with
  | zero => intro s post _ h; omega
  | succ d ih =>
    intro s post ho hm hp
    exact hs d s post ho hp (fun s' post' ho' hm' hp' => ih s' post' ho' (by omega) hp')
theorem rec_q {σ ρ : Type} (W : Nat → (ρ → Prop) → σ → Prop) (ok : σ → Prop) (μ : σ → Nat) (Q : σ → ρ → Prop)
    (hs : ∀ d s post, ok s → (∀ r, Q s r → post r) → (∀ s' post', ok s' → μ s' < μ s → (∀ r, Q s' r → post' r) → W d post' s') → W (d + 1) post s) :
    ∀ d s post, ok s → μ s < d → (∀ r, Q s r → post r) → W d post s := by
  intro d
  induction d with
  | zero => intro s post _ h; omega
  | succ d ih =>
    intro s post ho hm hp
    exact hs d s post ho hp (fun s' post' ho' hm' hp' => ih s' post' ho' (by omega) hp')
def bx_sum (f : Nat → Int32) : Nat → Int32
  | 0 => 0
  | n + 1 => bx_sum f n + f n
theorem ek_u {A : Prop} {B : Nat → Prop} {k N : Nat} (hk : k < N) (h : B k) : (some k = none → A) ∧ (∀ y : Nat, some k = some y → (y < N ∧ B y)) :=
  ⟨fun z => absurd z (Option.some_ne_none k), fun _ e => (by cases e; exact ⟨hk, h⟩)⟩
theorem ek_nu {A : Prop} {B : Nat → Prop} (h : A) : ((none : Option Nat) = none → A) ∧ (∀ y : Nat, (none : Option Nat) = some y → B y) :=
  ⟨fun _ => h, fun _ e => (by cases e)⟩
theorem ek_if {c d A B : Prop} (e : c ↔ d) (f : d → A) (g : ¬ d → B) : (c → A) ∧ (¬ c → B) :=
  ⟨fun z => f (e.mp z), fun z => g (fun y => z (e.mpr y))⟩
theorem ek_v {α : Sort _} {P : α → Prop} {a b : α} (e : a = b) (h : P b) : P a := e ▸ h
theorem co_some {x : Option Nat} {A : Prop} {B : Nat → Prop} (i : Nat) (h : B i) (hx : x = some i := by rfl) : (x = none → A) ∧ (∀ y : Nat, x = some y → B y) := by
  subst hx
  exact ⟨fun e => (nomatch e), fun y e => Option.some.inj e ▸ h⟩
theorem co_none {x : Option Nat} {A : Prop} {B : Nat → Prop} (h : A) (hx : x = none := by rfl) : (x = none → A) ∧ (∀ y : Nat, x = some y → B y) := by
  subst hx
  exact ⟨fun _ => h, fun y e => (nomatch e)⟩
theorem co_any {x : Option Nat} {A : Prop} {B : Nat → Prop} (hn : x = none → A) (hs : ∀ i : Nat, x = some i → B i) : (x = none → A) ∧ (∀ y : Nat, x = some y → B y) := ⟨hn, hs⟩
theorem co_2 {P : Nat → Prop} (h0 : P 0) (h1 : P 1) {i : Nat} (hi : i < 2) : P i :=
  match i, hi with
  | 0, _ => h0
  | 1, _ => h1
theorem co_3 {P : Nat → Prop} (h0 : P 0) (h1 : P 1) (h2 : P 2) {i : Nat} (hi : i < 3) : P i :=
  match i, hi with
  | 0, _ => h0
  | 1, _ => h1
  | 2, _ => h2
theorem co_4 {P : Nat → Prop} (h0 : P 0) (h1 : P 1) (h2 : P 2) (h3 : P 3) {i : Nat} (hi : i < 4) : P i :=
  match i, hi with
  | 0, _ => h0
  | 1, _ => h1
  | 2, _ => h2
  | 3, _ => h3
theorem co_dec {N : Nat} {P : Nat → Prop} [DecidablePred P] (h : (List.range N).all (fun i => decide (P i)) = true) {i : Nat} (hi : i < N) : P i := by
  have := List.all_eq_true.mp h i (List.mem_range.mpr hi)
  exact of_decide_eq_true this
theorem co_tab {α : Type} {l : List α} {d : α} {P : α → Prop} (h : ∀ a, a ∈ l → P a) {i : Nat} (hi : i < l.length) : P (l.getD i d) := by
  rw [List.getD_eq_getElem?_getD, List.getElem?_eq_getElem hi]
  exact h _ (List.getElem_mem hi)
theorem pk_mu {x : Int32} {L : Nat} (h0 : ¬ x < 0) (h : ¬ nI L ≤ x) (hL : L < 2 ^ 31) : ∃ j : Nat, j < L ∧ x = nI j ∧ x + 1 = nI (j + 1) ∧ x.toNatClampNeg = j ∧ L - (x + 1).toNatClampNeg < L - x.toNatClampNeg := by
  obtain ⟨j, hj, rfl⟩ := nI_of h0
  have hl : j < L := Nat.not_le.mp fun q => h (nI_le q hj)
  refine ⟨j, hl, rfl, nI_1 j, nI_clamp hj, ?_⟩
  rw [nI_1, nI_clamp (by omega), nI_clamp hj]
  omega
theorem op_s {α : Type} {r : Option α} {A : Prop} {B : α → Prop} {y : α} (h : r = some y) (b : B y) : (r = none → A) ∧ ∀ z, r = some z → B z :=
  ⟨fun e => (by rw [h] at e; cases e), fun z e => (by rw [h] at e; cases e; exact b)⟩
def l_holds {α : Type} (a : Nat → Option Nat) (LP : List Nat) (p : Nat → α) (c : Nat) (b : Nat → α) : Prop :=
  ∀ j, j < c → ∃ y, a j = some y ∧ y ∈ LP ∧ p y = b j
theorem l_holds_0 {α : Type} {a : Nat → Option Nat} {LP : List Nat} {p b : Nat → α} : l_holds a LP p 0 b := fun j h => absurd h (Nat.not_lt_zero j)
theorem l_in_new (LP : List Nat) (q : Nat) : q ∈ LP ++ [q] := List.mem_append.mpr (Or.inr (List.mem_singleton.mpr rfl))
def l_sum (b : Nat → Int32) : Nat → Int32
  | 0 => 0
  | k + 1 => l_sum b k + b k
theorem sb_shr0 (x : Int32) : x >>> ((0 : Int32) &&& 31) = x := by
  rw [show ((0 : Int32) &&& 31) = 0 by decide]
  simp
theorem sb_shl0 (x : Int32) : x <<< ((0 : Int32) &&& 31) = x := by
  rw [show ((0 : Int32) &&& 31) = 0 by decide]
  simp
theorem sb_cl0 : (0 : Int32).toNatClampNeg = 0 := by decide
theorem sb_m1 {p : Nat} (h : 0 < p) : nI p + (-1) = nI (p - 1) := by
  obtain ⟨q, rfl⟩ : ∃ q, p = q + 1 := ⟨p - 1, by omega⟩
  exact pk_m1 q
def sb_b (c : Nat) : Int32 := (nI c).toInt8.toInt32
theorem sb_byte : ∀ c, c < 256 → sb_b c &&& 255 = nI c ∧ ((nI c).toUInt32 % 65536).toInt32 = nI c ∧ nI c ≤ 255 := by decide +kernel
def sb_Fit (a : Nat → Int32) : Prop := ∀ j, fits .byte (.int (a j)) = true
def sb_Lat (t : Nat → Nat) (n : Nat) (a : Nat → Int32) : Prop := ∀ j, j < n → t j < 256 ∧ a j = sb_b (t j)
theorem sb_fitB (c : Nat) : fits .byte (.int (sb_b c)) = true := pk_fb _
theorem sb_fit0 : sb_Fit (fun _ => 0) := fun _ => by
  show fits .byte (.int 0) = true
  decide
theorem sb_fitU {a : Nat → Int32} {k : Nat} {x : Int32} (h : sb_Fit a) (hx : fits .byte (.int x) = true) : sb_Fit (upd a k x) := by
  intro j
  by_cases e : j = k
  · subst e
    rw [pk_us]
    exact hx
  · rw [pk_un e]
    exact h j
def sb_cat (t : Nat → Nat) (n : Nat) (s : Nat → Nat) : Nat → Nat := fun j => if j < n then t j else s (j - n)
theorem sb_cat_lo {t s : Nat → Nat} {n j : Nat} (h : j < n) : sb_cat t n s j = t j := if_pos h
theorem sb_cat_hi {t s : Nat → Nat} {n j : Nat} : sb_cat t n s (n + j) = s j := by
  show (if n + j < n then t (n + j) else s (n + j - n)) = s j
  rw [if_neg (by omega), Nat.add_sub_cancel_left]
theorem sb_latPut {t s : Nat → Nat} {n w : Nat} {a a' : Nat → Int32} (h : sb_Lat t n a) (hk : ∀ j, j < n → a' j = a j) (hs : ∀ i, i < w → s i < 256 ∧ a' (n + i) = sb_b (s i)) : sb_Lat (sb_cat t n s) (n + w) a' := by
  intro j hj
  by_cases e : j < n
  · rw [sb_cat_lo e, hk j e]
    exact h j e
  · obtain ⟨i, rfl⟩ : ∃ i, j = n + i := ⟨j - n, by omega⟩
    rw [sb_cat_hi]
    exact hs i (by omega)
theorem sb_latKeep {t : Nat → Nat} {n : Nat} {a a' : Nat → Int32} (h : sb_Lat t n a) (hk : ∀ j, j < n → a' j = a j) : sb_Lat t n a' := fun j hj => by
  rw [hk j hj]
  exact h j hj
def sb_cap (q m : Nat) : Nat := if q ≤ m then m else if 2 * m + 2 < q then q else 2 * m + 2
def sb_Room (q m mc ms : Nat) : Prop := q ≤ m ∨ (1 ≤ mc ∧ sb_cap q m ≤ ms ∧ sb_cap q m ≤ 65536)
theorem sb_cap_ge (q m : Nat) : q ≤ sb_cap q m := by
  unfold sb_cap
  split
  · omega
  · split <;> omega
theorem sb_cap_gem (q m : Nat) : m ≤ sb_cap q m := by
  unfold sb_cap
  split
  · omega
  · split <;> omega
theorem sb_cap_le {q m mc ms : Nat} (hm : m ≤ 65536) (hr : sb_Room q m mc ms) : sb_cap q m ≤ 65536 := by
  rcases hr with h | h
  · rw [sb_cap, if_pos h]
    exact hm
  · exact h.2.2
theorem sb_at {P : Int32 → Prop} {x y : Int32} (e : x = y) (h : P y) : P x := e ▸ h
def sb_dg (w : Nat) : Nat := if w < 10 then 1 else if w < 100 then 2 else if w < 1000 then 3 else if w < 10000 then 4 else if w < 100000 then 5 else if w < 1000000 then 6 else if w < 10000000 then 7 else if w < 100000000 then 8 else if w < 1000000000 then 9 else 10
def sb_dec (v : Nat) : Nat → Nat := fun i => 48 + v / 10 ^ (sb_dg v - 1 - i) % 10
theorem sb_dg_in (w : Nat) : 1 ≤ sb_dg w ∧ sb_dg w ≤ 10 := by
  unfold sb_dg
  constructor <;> (repeat' split) <;> omega
theorem sb_dg100 {w : Nat} (h : 100 ≤ w) (hw : w < 2 ^ 31) : sb_dg w = sb_dg (w / 100) + 2 := by
  rw [sb_dg, sb_dg, if_neg (show ¬ w < 10 by omega), if_neg (show ¬ w < 100 by omega)]
  by_cases h3 : w < 1000
  · rw [if_pos h3, if_pos (show w / 100 < 10 by omega)]
  rw [if_neg h3, if_neg (show ¬ w / 100 < 10 by omega)]
  by_cases h4 : w < 10000
  · rw [if_pos h4, if_pos (show w / 100 < 100 by omega)]
  rw [if_neg h4, if_neg (show ¬ w / 100 < 100 by omega)]
  by_cases h5 : w < 100000
  · rw [if_pos h5, if_pos (show w / 100 < 1000 by omega)]
  rw [if_neg h5, if_neg (show ¬ w / 100 < 1000 by omega)]
  by_cases h6 : w < 1000000
  · rw [if_pos h6, if_pos (show w / 100 < 10000 by omega)]
  rw [if_neg h6, if_neg (show ¬ w / 100 < 10000 by omega)]
  by_cases h7 : w < 10000000
  · rw [if_pos h7, if_pos (show w / 100 < 100000 by omega)]
  rw [if_neg h7, if_neg (show ¬ w / 100 < 100000 by omega)]
  by_cases h8 : w < 100000000
  · rw [if_pos h8, if_pos (show w / 100 < 1000000 by omega)]
  rw [if_neg h8, if_neg (show ¬ w / 100 < 1000000 by omega)]
  by_cases h9 : w < 1000000000
  · rw [if_pos h9, if_pos (show w / 100 < 10000000 by omega)]
  rw [if_neg h9, if_neg (show ¬ w / 100 < 10000000 by omega)]
  rw [if_pos (show w / 100 < 100000000 by omega)]
theorem sb_negT {w : Nat} (h : w < 2 ^ 31) : (-nI w).toInt = -(w : Int) := by
  rw [Int32.toInt_neg, nI_toInt h]
  exact Int.bmod_eq_of_le (by omega) (by omega)
theorem sb_nle {a b : Nat} (ha : a < 2 ^ 31) (hb : b < 2 ^ 31) : -nI a ≤ -nI b ↔ b ≤ a := by
  rw [Int32.le_iff_toInt_le, sb_negT ha, sb_negT hb]
  omega
theorem sb_nlt {a b : Nat} (ha : a < 2 ^ 31) (hb : b < 2 ^ 31) : -nI a < -nI b ↔ b < a := by
  rw [Int32.lt_iff_toInt_lt, sb_negT ha, sb_negT hb]
  omega
theorem sb_cmp {A B : Prop} {x : Int32} (v c : Nat) (f : c ≤ v → A) (g : v < c → B) (hv : v < 2 ^ 31) (hx : x = -nI c := by rfl) (hc : c < 2 ^ 31 := by omega) : (-nI v ≤ x → A) ∧ (¬ -nI v ≤ x → B) := by
  subst hx
  rw [sb_nle hv hc]
  exact ⟨f, fun z => g (by omega)⟩
theorem sb_ndiv {w : Nat} (hw : w < 2 ^ 31) : (-nI w) / 100 = -nI (w / 100) := by
  apply Int32.toInt_inj.mp
  have h100 : (100 : Int32).toInt = 100 := by decide
  rw [Int32.toInt_div, sb_negT hw, h100, sb_negT (by omega), Int.neg_tdiv, Int.tdiv_eq_ediv_of_nonneg (by omega), Int.bmod_eq_of_le (by omega) (by omega)]
  omega
theorem sb_nrem {w : Nat} (hw : w < 2 ^ 31) : (-nI (w / 100)) * 100 - (-nI w) = nI (w % 100) := by
  have h := pk_rem (a := w) (d := 100) hw (by decide) (by decide)
  rw [pk_div hw (by decide) (by decide)] at h
  rw [← h]
  show (-nI (w / 100)) * nI 100 - (-nI w) = nI w - nI (w / 100) * nI 100
  rw [Int32.neg_mul, Int32.sub_neg, Int32.add_comm, ← Int32.sub_eq_add_neg]
end
section
/-! counting: how many numbers below n satisfy p -/
def tk_cb (p : Nat → Bool) : Nat → Nat
  | 0 => 0
  | n + 1 => tk_cb p n + (if p n = true then 1 else 0)
theorem tk_cb_t {p : Nat → Bool} {n : Nat} (h : p n = true) : tk_cb p (n + 1) = tk_cb p n + 1 := by
  simp [tk_cb, h]
theorem tk_cb_f {p : Nat → Bool} {n : Nat} (h : ¬ p n = true) : tk_cb p (n + 1) = tk_cb p n := by
  simp [tk_cb, h]
theorem tk_cb_le (p : Nat → Bool) (n : Nat) : tk_cb p n ≤ n := by
  induction n with
  | zero => exact Nat.le_refl 0
  | succ n ih =>
    by_cases h : p n = true
    · rw [tk_cb_t h]; omega
    · rw [tk_cb_f h]; omega
theorem tk_cb_congr {p q : Nat → Bool} (n : Nat) (h : ∀ i, i < n → p i = q i) : tk_cb p n = tk_cb q n := by
  induction n with
  | zero => rfl
  | succ n ih =>
    have e := ih (fun i hi => h i (by omega))
    have e2 := h n (by omega)
    simp only [tk_cb, e, e2]
theorem tk_cb_none {p : Nat → Bool} {a : Nat} (b : Nat) (hab : a ≤ b) (h : ∀ i, a ≤ i → i < b → ¬ p i = true) : tk_cb p b = tk_cb p a := by
  induction b with
  | zero =>
    have e : a = 0 := by omega
    subst e
    rfl
  | succ b ih =>
    by_cases e : a = b + 1
    · subst e
      rfl
    · rw [tk_cb_f (h b (by omega) (by omega))]
      exact ih (by omega) (fun i h1 h2 => h i h1 (by omega))
theorem tk_cb_all {p : Nat → Bool} {a : Nat} (b : Nat) (hab : a ≤ b) (h : ∀ i, a ≤ i → i < b → p i = true) : tk_cb p b = tk_cb p a + (b - a) := by
  induction b with
  | zero =>
    have e : a = 0 := by omega
    subst e
    rfl
  | succ b ih =>
    by_cases e : a = b + 1
    · subst e
      omega
    · rw [tk_cb_t (h b (by omega) (by omega)), ih (by omega) (fun i h1 h2 => h i h1 (by omega))]
      omega
theorem tk_cb_ex {p : Nat → Bool} {n : Nat} (h : 0 < tk_cb p n) : ∃ i, i < n ∧ p i = true := by
  induction n with
  | zero => exact absurd h (Nat.lt_irrefl 0)
  | succ n ih =>
    by_cases e : p n = true
    · exact ⟨n, by omega, e⟩
    · rw [tk_cb_f e] at h
      obtain ⟨i, h1, h2⟩ := ih h
      exact ⟨i, by omega, h2⟩
theorem tk_cb_mono {p : Nat → Bool} {a b : Nat} (h : a ≤ b) : tk_cb p a ≤ tk_cb p b := by
  induction b with
  | zero =>
    have e : a = 0 := by omega
    subst e
    exact Nat.le_refl _
  | succ b ih =>
    by_cases e : a = b + 1
    · subst e
      exact Nat.le_refl _
    · have i1 := ih (by omega)
      by_cases e : p b = true
      · rw [tk_cb_t e]; omega
      · rw [tk_cb_f e]; omega
theorem tk_cb_pos {p : Nat → Bool} {n i : Nat} (hi : i < n) (h : p i = true) : 0 < tk_cb p n := by
  have h1 : tk_cb p (i + 1) ≤ tk_cb p n := tk_cb_mono hi
  rw [tk_cb_t h] at h1
  omega
theorem tk_cb_sub {p q : Nat → Bool} (n : Nat) (h : ∀ i, i < n → p i = true → q i = true) : tk_cb p n ≤ tk_cb q n := by
  induction n with
  | zero => exact Nat.le_refl _
  | succ n ih =>
    have i1 := ih (fun i hi => h i (by omega))
    by_cases e : p n = true
    · rw [tk_cb_t e, tk_cb_t (h n (by omega) e)]; omega
    · rw [tk_cb_f e]
      have i2 : tk_cb q n ≤ tk_cb q (n + 1) := tk_cb_mono (by omega)
      omega
theorem tk_cb_lt {p q : Nat → Bool} {n j : Nat} (hj : j < n) (hp : ¬ p j = true) (hq : q j = true) (h : ∀ i, i < n → p i = true → q i = true) : tk_cb p n < tk_cb q n := by
  induction n with
  | zero => omega
  | succ n ih =>
    by_cases e : j = n
    · subst e
      rw [tk_cb_f hp, tk_cb_t hq]
      have i1 := tk_cb_sub j (fun i hi => h i (by omega))
      omega
    · have i1 := ih (by omega) (fun i hi => h i (by omega))
      by_cases e1 : p n = true
      · rw [tk_cb_t e1, tk_cb_t (h n (by omega) e1)]; omega
      · rw [tk_cb_f e1]
        have i2 : tk_cb q n ≤ tk_cb q (n + 1) := tk_cb_mono (by omega)
        omega
theorem tk_cb_ltn {p : Nat → Bool} {n j : Nat} (hj : j < n) (hp : ¬ p j = true) : tk_cb p n < n := by
  have i1 := tk_cb_lt (q := fun _ => true) hj hp rfl (fun _ _ _ => rfl)
  have i2 := tk_cb_le (fun _ => true) n
  omega
theorem tk_cb_one {p q : Nat → Bool} {n j : Nat} (hj : j < n) (hp : ¬ p j = true) (hq : q j = true) (h : ∀ i, i < n → i ≠ j → p i = q i) : tk_cb q n = tk_cb p n + 1 := by
  induction n with
  | zero => omega
  | succ n ih =>
    by_cases e : j = n
    · subst e
      rw [tk_cb_f hp, tk_cb_t hq, tk_cb_congr j (fun i hi => h i (by omega) (by omega))]
    · have i1 := ih (by omega) (fun i hi => h i (by omega))
      have e2 := h n (by omega) (fun z => e z.symm)
      simp only [tk_cb, i1, e2]
      omega
def tk_sm (f : Nat → Nat) : Nat → Nat
  | 0 => 0
  | n + 1 => tk_sm f n + f n
/-! a rising list of those below n that satisfy p -/
def tk_en (c : Nat) (H : Nat → Nat) (n : Nat) (p : Nat → Bool) : Prop :=
  (∀ k, k < c → H k < n ∧ p (H k) = true) ∧ (∀ j k, j < k → k < c → H j < H k) ∧ (∀ i, i < n → p i = true → ∃ k, k < c ∧ H k = i)
theorem tk_en_at {c n : Nat} {H : Nat → Nat} {p : Nat → Bool} (h : tk_en c H n p) : ∀ k, k < c → tk_cb p (H k) = k := by
  obtain ⟨h1, h2, h3⟩ := h
  intro k
  induction k with
  | zero =>
    intro hk
    rw [tk_cb_none (a := 0) (H 0) (Nat.zero_le _)]
    · rfl
    · intro i _ hi hp
      have a1 := h1 0 hk
      obtain ⟨m, hm, e⟩ := h3 i (by omega) hp
      by_cases z : m = 0
      · subst z; omega
      · have a2 := h2 0 m (by omega) hm
        omega
  | succ k ih =>
    intro hk
    have e := ih (by omega)
    have g := h2 k (k + 1) (by omega) hk
    have a0 := h1 (k + 1) hk
    have nn : ∀ i, H k + 1 ≤ i → i < H (k + 1) → ¬ p i = true := by
      intro i ha hi hp
      obtain ⟨m, hm, e2⟩ := h3 i (by omega) hp
      by_cases z : m ≤ k
      · by_cases z2 : m = k
        · subst z2; omega
        · have a2 := h2 m k (by omega) (by omega)
          omega
      · by_cases z2 : m = k + 1
        · subst z2; omega
        · have a2 := h2 (k + 1) m (by omega) hm
          omega
    rw [tk_cb_none (a := H k + 1) (H (k + 1)) (by omega) nn, tk_cb_t (h1 k (by omega)).2, e]
theorem tk_en_n {c n : Nat} {H : Nat → Nat} {p : Nat → Bool} (h : tk_en c H n p) : tk_cb p n = c := by
  by_cases hc : c = 0
  · subst hc
    rw [tk_cb_none (a := 0) n (Nat.zero_le _)]
    · rfl
    · intro i _ hi hp
      obtain ⟨k, hk, _⟩ := h.2.2 i hi hp
      omega
  · have e := tk_en_at h (c - 1) (by omega)
    have a1 := h.1 (c - 1) (by omega)
    rw [tk_cb_none (a := H (c - 1) + 1) n (by omega), tk_cb_t a1.2, e]
    · omega
    · intro i ha hi hp
      obtain ⟨k, hk, e2⟩ := h.2.2 i hi hp
      by_cases z : k = c - 1
      · subst z; omega
      · have a2 := h.2.1 k (c - 1) (by omega) (by omega)
        omega
theorem tk_en_le {c n : Nat} {H : Nat → Nat} {p : Nat → Bool} (h : tk_en c H n p) : c ≤ n := by
  have h1 := tk_en_n h
  have h2 := tk_cb_le p n
  omega
/-! a set of positions below b as its runs: neither overlapping nor touching, from left to right -/
def tk_nf (r : Nat) (rs re : Nat → Nat) (P : Nat → Bool) (b : Nat) : Prop :=
  (∀ k, k < r → rs k < re k ∧ re k < b) ∧ (∀ j k, j < k → k < r → re j < rs k) ∧ (∀ p, p < b → (P p = true ↔ ∃ k, k < r ∧ rs k ≤ p ∧ p < re k))
theorem tk_nf_0 {rs re : Nat → Nat} {P : Nat → Bool} : tk_nf 0 rs re P 0 :=
  ⟨fun k h => absurd h (Nat.not_lt_zero k), fun _ k _ h => absurd h (Nat.not_lt_zero k), fun p h => absurd h (Nat.not_lt_zero p)⟩
theorem tk_nf_skip {r b : Nat} {rs re : Nat → Nat} {P : Nat → Bool} (h : tk_nf r rs re P b) (hb : ¬ P b = true) : tk_nf r rs re P (b + 1) := by
  obtain ⟨h1, h2, h3⟩ := h
  refine ⟨fun k hk => ?_, h2, fun p hp => ?_⟩
  · have a := h1 k hk
    omega
  · by_cases e : p = b
    · subst e
      constructor
      · intro z
        exact absurd z hb
      · intro ⟨k, hk, _, h5⟩
        have a := h1 k hk
        omega
    · exact h3 p (by omega)
theorem tk_nf_skips {r b c : Nat} {rs re : Nat → Nat} {P : Nat → Bool} (h : tk_nf r rs re P b) (hbc : b ≤ c) (hb : ∀ q, b ≤ q → q < c → ¬ P q = true) : tk_nf r rs re P c := by
  induction c with
  | zero =>
    have e : b = 0 := by omega
    subst e
    exact h
  | succ c ih =>
    by_cases e : b = c + 1
    · subst e
      exact h
    · exact tk_nf_skip (ih (by omega) (fun q h1 h2 => hb q h1 (by omega))) (hb c (by omega) (by omega))
theorem tk_nf_add {r b c : Nat} {rs re rs' re' : Nat → Nat} {P : Nat → Bool} (h : tk_nf r rs re P b) (hbc : b < c) (hP : ∀ q, b ≤ q → q < c → P q = true) (hc : ¬ P c = true)
    (e : ∀ k, k < r → rs' k = rs k ∧ re' k = re k) (e1 : rs' r = b) (e2 : re' r = c) : tk_nf (r + 1) rs' re' P (c + 1) := by
  obtain ⟨h1, h2, h3⟩ := h
  refine ⟨fun k hk => ?_, fun j k hj hk => ?_, fun p hp => ?_⟩
  · by_cases z : k = r
    · subst z; omega
    · have a1 := h1 k (by omega)
      have a2 := e k (by omega)
      omega
  · have ej := e j (by omega)
    have hj1 := h1 j (by omega)
    by_cases z : k = r
    · subst z; omega
    · have a1 := e k (by omega)
      have a2 := h2 j k hj (by omega)
      omega
  · constructor
    · intro hp'
      by_cases z : p < b
      · obtain ⟨k, hk, h4, h5⟩ := (h3 p z).mp hp'
        have a1 := e k hk
        exact ⟨k, by omega, by omega, by omega⟩
      · have a1 : p ≠ c := fun z => hc (z ▸ hp')
        exact ⟨r, by omega, by omega, by omega⟩
    · intro ⟨k, hk, h4, h5⟩
      by_cases z : k = r
      · subst z
        exact hP p (by omega) (by omega)
      · have a1 := e k (by omega)
        have a2 := h1 k (by omega)
        exact (h3 p (by omega)).mpr ⟨k, by omega, by omega, by omega⟩
theorem tk_nf_end {r b k : Nat} {rs re : Nat → Nat} {P : Nat → Bool} (h : tk_nf r rs re P b) (hk : k < r) : ¬ P (re k) = true := by
  obtain ⟨h1, h2, h3⟩ := h
  intro z
  have a := h1 k hk
  obtain ⟨m, hm, b1, b2⟩ := (h3 (re k) a.2).mp z
  by_cases z1 : m < k
  · have c1 := h2 m k z1 hk
    omega
  · by_cases z2 : m = k
    · subst z2; omega
    · have c1 := h2 k m (by omega) hm
      omega
theorem tk_nf_beg {r b k : Nat} {rs re : Nat → Nat} {P : Nat → Bool} (h : tk_nf r rs re P b) (hk : k < r) : P (rs k) = true := by
  have a := h.1 k hk
  exact (h.2.2 (rs k) (by omega)).mpr ⟨k, hk, Nat.le_refl _, a.1⟩
theorem tk_nf_uq {r r' b : Nat} {rs re rs' re' : Nat → Nat} {P : Nat → Bool} (h : tk_nf r rs re P b) (h' : tk_nf r' rs' re' P b) : ∀ k, k < r → k < r' ∧ rs' k = rs k ∧ re' k = re k := by
  intro k
  induction k using Nat.strongRecOn with
  | ind k ih =>
    intro hk
    have a := h.1 k hk
    obtain ⟨m, hm, a1, a2⟩ := (h'.2.2 (rs k) (by omega)).mp (tk_nf_beg h hk)
    have hmk : k ≤ m := by
      by_cases z : m < k
      · have c1 := ih m z (by omega)
        have c2 := h.2.1 m k z hk
        omega
      · omega
    have hk' : k < r' := by omega
    have a' := h'.1 k hk'
    have b1 : rs' k ≤ rs k := by
      by_cases z : m = k
      · subst z; exact a1
      · have c1 := h'.2.1 k m (by omega) hm
        omega
    obtain ⟨m2, hm2, c1, c2⟩ := (h.2.2 (rs' k) (by omega)).mp (tk_nf_beg h' hk')
    have b2 : rs k ≤ rs' k := by
      by_cases z : m2 < k
      · have d1 := ih m2 z (by omega)
        have d2 := h'.2.1 m2 k z hk'
        omega
      · by_cases z2 : m2 = k
        · subst z2; exact c1
        · have d1 := h.2.1 k m2 (by omega) hm2
          omega
    have q1 := tk_nf_end h hk
    have q2 := tk_nf_end h' hk'
    refine ⟨hk', by omega, ?_⟩
    rcases Nat.lt_trichotomy (re' k) (re k) with z | z | z
    · exact absurd ((h.2.2 (re' k) (by omega)).mpr ⟨k, hk, by omega, z⟩) q2
    · exact z
    · exact absurd ((h'.2.2 (re k) (by omega)).mpr ⟨k, hk', by omega, z⟩) q1
theorem tk_nf_eq {r r' b : Nat} {rs re rs' re' : Nat → Nat} {P : Nat → Bool} (h : tk_nf r rs re P b) (h' : tk_nf r' rs' re' P b) : r' = r ∧ ∀ k, k < r → rs' k = rs k ∧ re' k = re k := by
  have e : r' = r := by
    rcases Nat.lt_trichotomy r' r with z | z | z
    · have a := tk_nf_uq h h' r' z
      omega
    · exact z
    · have a := tk_nf_uq h' h r z
      omega
  exact ⟨e, fun k hk => (tk_nf_uq h h' k hk).2⟩
theorem tk_nf_congr {r b : Nat} {rs re : Nat → Nat} {P Q : Nat → Bool} (h : tk_nf r rs re P b) (e : ∀ p, p < b → Q p = P p) : tk_nf r rs re Q b :=
  ⟨h.1, h.2.1, fun p hp => by rw [e p hp]; exact h.2.2 p hp⟩
theorem tk_nf_fn {r b : Nat} {rs re rs' re' : Nat → Nat} {P : Nat → Bool} (h : tk_nf r rs re P b) (e : ∀ k, k < r → rs' k = rs k ∧ re' k = re k) : tk_nf r rs' re' P b := by
  obtain ⟨h1, h2, h3⟩ := h
  refine ⟨fun k hk => ?_, fun j k hj hk => ?_, fun p hp => ?_⟩
  · have a1 := h1 k hk
    have a2 := e k hk
    omega
  · have a1 := h2 j k hj hk
    have a2 := e k hk
    have a3 := e j (by omega)
    omega
  · rw [h3 p hp]
    constructor
    · intro ⟨k, hk, h4, h5⟩
      have a2 := e k hk
      exact ⟨k, hk, by omega, by omega⟩
    · intro ⟨k, hk, h4, h5⟩
      have a2 := e k hk
      exact ⟨k, hk, by omega, by omega⟩
theorem tk_nf_len {r b : Nat} {rs re : Nat → Nat} {P : Nat → Bool} (h : tk_nf r rs re P b) : 2 * r ≤ b := by
  have a : ∀ k, k < r → 2 * k ≤ rs k := by
    intro k
    induction k with
    | zero => intro _; omega
    | succ k ih =>
      intro hk
      have a1 := ih (by omega)
      have a2 := h.1 k (by omega)
      have a3 := h.2.1 k (k + 1) (by omega) hk
      omega
  by_cases z : r = 0
  · omega
  · have a1 := a (r - 1) (by omega)
    have a2 := h.1 (r - 1) (by omega)
    omega
theorem tk_nf_gap {r b k i : Nat} {rs re : Nat → Nat} {P : Nat → Bool} (h : tk_nf r rs re P b) (hk : k < r) (h1 : 0 < k → re (k - 1) ≤ i) (h2 : i < rs k) : ¬ P i = true := by
  intro z
  have a := h.1 k hk
  obtain ⟨m, hm, b1, b2⟩ := (h.2.2 i (by omega)).mp z
  by_cases z1 : m < k
  · have c0 := h1 (by omega)
    by_cases z2 : m = k - 1
    · subst z2; omega
    · have c1 := h.2.1 m (k - 1) (by omega) (by omega)
      have c2 := h.1 (k - 1) (by omega)
      omega
  · by_cases z2 : m = k
    · subst z2; omega
    · have c1 := h.2.1 k m (by omega) hm
      omega
theorem tk_nf_in {r b k i : Nat} {rs re : Nat → Nat} {P : Nat → Bool} (h : tk_nf r rs re P b) (hk : k < r) (h1 : rs k ≤ i) (h2 : i < re k) : P i = true := by
  have a := h.1 k hk
  exact (h.2.2 i (by omega)).mpr ⟨k, hk, h1, h2⟩
theorem tk_nf_last {r b i : Nat} {rs re : Nat → Nat} {P : Nat → Bool} (h : tk_nf r rs re P b) (h1 : 0 < r → re (r - 1) ≤ i) (h2 : i < b) : ¬ P i = true := by
  intro z
  obtain ⟨m, hm, b1, b2⟩ := (h.2.2 i h2).mp z
  have c0 := h1 (by omega)
  by_cases z2 : m = r - 1
  · subst z2; omega
  · have c1 := h.2.1 m (r - 1) (by omega) (by omega)
    have c2 := h.1 (r - 1) (by omega)
    omega
theorem tk_nf_sm {r b : Nat} {rs re : Nat → Nat} {P : Nat → Bool} (h : tk_nf r rs re P b) : ∀ k, k < r → tk_sm (fun j => re j - rs j) (k + 1) = tk_cb P (re k) := by
  intro k
  induction k with
  | zero =>
    intro hk
    have a := h.1 0 hk
    rw [tk_cb_all (a := rs 0) (re 0) (by omega) (fun i h1 h2 => tk_nf_in h hk h1 h2), tk_cb_none (a := 0) (rs 0) (by omega) (fun i _ h2 => tk_nf_gap h hk (fun z => absurd z (Nat.lt_irrefl 0)) h2)]
    rfl
  | succ k ih =>
    intro hk
    have a := h.1 (k + 1) hk
    have a2 := h.2.1 k (k + 1) (by omega) hk
    rw [tk_cb_all (a := rs (k + 1)) (re (k + 1)) (by omega) (fun i h1 h2 => tk_nf_in h hk h1 h2), tk_cb_none (a := re k) (rs (k + 1)) (by omega) (fun i h1 h2 => tk_nf_gap h hk (fun _ => h1) h2), ← ih (by omega)]
    rfl
theorem tk_nf_sum {r b : Nat} {rs re : Nat → Nat} {P : Nat → Bool} (h : tk_nf r rs re P b) : tk_sm (fun j => re j - rs j) r = tk_cb P b := by
  by_cases z : r = 0
  · subst z
    rw [tk_cb_none (a := 0) b (Nat.zero_le _) (fun i _ h2 => tk_nf_last h (fun z => absurd z (Nat.lt_irrefl 0)) h2)]
    rfl
  · obtain ⟨q, rfl⟩ : ∃ q, r = q + 1 := ⟨r - 1, by omega⟩
    have a := h.1 q (by omega)
    rw [tk_nf_sm h q (by omega), tk_cb_none (a := re q) b (by omega) (fun i h1 h2 => tk_nf_last h (fun _ => h1) h2)]
theorem tk_nf_cb {r b p : Nat} {rs re : Nat → Nat} {P : Nat → Bool} (h : tk_nf r rs re P b) (hp : p < b) : tk_cb (fun k => decide (rs k ≤ p ∧ p < re k)) r = if P p = true then 1 else 0 := by
  by_cases z : P p = true
  · obtain ⟨k, hk, a1, a2⟩ := (h.2.2 p hp).mp z
    rw [if_pos z, tk_cb_none (a := k + 1) r (by omega), tk_cb_t (decide_eq_true ⟨a1, a2⟩), tk_cb_none (a := 0) k (by omega)]
    · rfl
    · intro i _ hi hd
      have b1 := of_decide_eq_true hd
      have b2 := h.2.1 i k hi hk
      omega
    · intro i h1 h2 hd
      have b1 := of_decide_eq_true hd
      have b2 := h.2.1 k i (by omega) h2
      omega
  · rw [if_neg z, tk_cb_none (a := 0) r (by omega)]
    · rfl
    · intro i _ hi hd
      exact z ((h.2.2 p hp).mpr ⟨i, hi, of_decide_eq_true hd⟩)
end
section
/-! a track: n stretches (s i, e i), sorted -/
def tk_so (n : Nat) (s e : Nat → Nat) : Prop :=
  (∀ i, i < n → s i < e i ∧ e i ≤ 64) ∧ (∀ i j, i < j → j < n → s i < s j ∨ (s i = s j ∧ e j ≤ e i))
theorem tk_so_fn {n : Nat} {s e s' e' : Nat → Nat} (h : tk_so n s e) (q : ∀ i, i < n → s' i = s i ∧ e' i = e i) : tk_so n s' e' := by
  refine ⟨fun i hi => ?_, fun i j hi hj => ?_⟩
  · have a := h.1 i hi
    have b := q i hi
    omega
  · have a := h.2 i j hi hj
    have b := q i (by omega)
    have c := q j hj
    omega
theorem tk_so_nf {r : Nat} {rs re : Nat → Nat} {P : Nat → Bool} (h : tk_nf r rs re P 65) : tk_so r rs re := by
  refine ⟨fun i hi => ?_, fun i j hi hj => ?_⟩
  · have a := h.1 i hi
    omega
  · have a := h.2.1 i j hi hj
    have b := h.1 i (by omega)
    omega
theorem tk_so_le {n i j : Nat} {s e : Nat → Nat} (h : tk_so n s e) (hi : i ≤ j) (hj : j < n) : s i ≤ s j := by
  by_cases z : i = j
  · subst z; exact Nat.le_refl _
  · have a := h.2 i j (by omega) hj
    omega
/-- where (a, b) goes -/
def tk_ip (s e : Nat → Nat) (a b : Nat) : Nat → Nat
  | 0 => 0
  | k + 1 => if a < s k ∨ (s k = a ∧ e k < b) then tk_ip s e a b k else k + 1
theorem tk_ip_t {s e : Nat → Nat} {a b k : Nat} (h : a < s k ∨ (s k = a ∧ e k < b)) : tk_ip s e a b (k + 1) = tk_ip s e a b k := if_pos h
theorem tk_ip_f {s e : Nat → Nat} {a b k : Nat} (h : ¬ (a < s k ∨ (s k = a ∧ e k < b))) : tk_ip s e a b (k + 1) = k + 1 := if_neg h
theorem tk_ip_le (s e : Nat → Nat) (a b : Nat) : ∀ n, tk_ip s e a b n ≤ n := by
  intro n
  induction n with
  | zero => exact Nat.le_refl 0
  | succ n ih =>
    by_cases z : a < s n ∨ (s n = a ∧ e n < b)
    · rw [tk_ip_t z]; omega
    · rw [tk_ip_f z]; omega
theorem tk_ip_hi (s e : Nat → Nat) (a b : Nat) : ∀ n j, tk_ip s e a b n ≤ j → j < n → (a < s j ∨ (s j = a ∧ e j < b)) := by
  intro n
  induction n with
  | zero => intro j _ h; omega
  | succ n ih =>
    intro j h1 h2
    by_cases z : a < s n ∨ (s n = a ∧ e n < b)
    · rw [tk_ip_t z] at h1
      by_cases w : j = n
      · subst w; exact z
      · exact ih j h1 (by omega)
    · rw [tk_ip_f z] at h1; omega
theorem tk_ip_lo (s e : Nat → Nat) (a b : Nat) : ∀ n, 0 < tk_ip s e a b n → ¬ (a < s (tk_ip s e a b n - 1) ∨ (s (tk_ip s e a b n - 1) = a ∧ e (tk_ip s e a b n - 1) < b)) := by
  intro n
  induction n with
  | zero => intro h; exact absurd h (Nat.lt_irrefl 0)
  | succ n ih =>
    by_cases z : a < s n ∨ (s n = a ∧ e n < b)
    · rw [tk_ip_t z]; exact ih
    · rw [tk_ip_f z]
      intro _
      exact z
theorem tk_ip_end {s e : Nat → Nat} {a b n : Nat} (h : 0 < n → s (n - 1) < a) : tk_ip s e a b n = n := by
  cases n with
  | zero => rfl
  | succ n =>
    have h1 : s n < a := h (by omega)
    exact tk_ip_f (by omega)
def tk_in (f : Nat → Nat) (q v : Nat) : Nat → Nat := fun j => if j < q then f j else if j = q then v else f (j - 1)
theorem tk_in_lo {f : Nat → Nat} {q v j : Nat} (h : j < q) : tk_in f q v j = f j := if_pos h
theorem tk_in_at {f : Nat → Nat} {q v : Nat} : tk_in f q v q = v := by
  unfold tk_in
  rw [if_neg (Nat.lt_irrefl q), if_pos rfl]
theorem tk_in_hi {f : Nat → Nat} {q v j : Nat} (h : q < j) : tk_in f q v j = f (j - 1) := by
  unfold tk_in
  rw [if_neg (by omega), if_neg (by omega)]
theorem tk_so_in {n a b : Nat} {s e : Nat → Nat} (h : tk_so n s e) (hab : a < b) (hb : b ≤ 64) : tk_so (n + 1) (tk_in s (tk_ip s e a b n) a) (tk_in e (tk_ip s e a b n) b) := by
  have g1 := tk_ip_le s e a b n
  have g2 := tk_ip_hi s e a b n
  have g3 := tk_ip_lo s e a b n
  generalize tk_ip s e a b n = q at g1 g2 g3
  have lo : ∀ i, i < q → s i < a ∨ (s i = a ∧ b ≤ e i) := by
    intro i hi
    have c1 := g3 (by omega)
    by_cases z : i = q - 1
    · subst z; omega
    · have c2 := h.2 i (q - 1) (by omega) (by omega)
      omega
  refine ⟨fun i hi => ?_, fun i j hi hj => ?_⟩
  · rcases Nat.lt_trichotomy i q with z | z | z
    · rw [tk_in_lo z, tk_in_lo z]; exact h.1 i (by omega)
    · subst z; rw [tk_in_at, tk_in_at]; exact ⟨hab, hb⟩
    · rw [tk_in_hi z, tk_in_hi z]; exact h.1 (i - 1) (by omega)
  · rcases Nat.lt_trichotomy j q with z | z | z
    · rw [tk_in_lo z, tk_in_lo z, tk_in_lo (j := i) (by omega), tk_in_lo (j := i) (by omega)]
      exact h.2 i j hi (by omega)
    · subst z
      rw [tk_in_lo hi, tk_in_lo hi, tk_in_at, tk_in_at]
      have c := lo i hi
      omega
    · rw [tk_in_hi z, tk_in_hi z]
      rcases Nat.lt_trichotomy i q with w | w | w
      · rw [tk_in_lo w, tk_in_lo w]
        exact h.2 i (j - 1) (by omega) (by omega)
      · subst w
        rw [tk_in_at, tk_in_at]
        have c := g2 (j - 1) (by omega) (by omega)
        omega
      · rw [tk_in_hi w, tk_in_hi w]
        exact h.2 (i - 1) (j - 1) (by omega) (by omega)
def tk_dr (f : Nat → Nat) (q : Nat) : Nat → Nat := fun j => if j < q then f j else f (j + 1)
theorem tk_dr_lo {f : Nat → Nat} {q j : Nat} (h : j < q) : tk_dr f q j = f j := if_pos h
theorem tk_dr_hi {f : Nat → Nat} {q j : Nat} (h : q ≤ j) : tk_dr f q j = f (j + 1) := if_neg (by omega)
theorem tk_so_dr {n q : Nat} {s e : Nat → Nat} (h : tk_so n s e) (hq : q < n) : tk_so (n - 1) (tk_dr s q) (tk_dr e q) := by
  refine ⟨fun i hi => ?_, fun i j hi hj => ?_⟩
  · by_cases z : i < q
    · rw [tk_dr_lo z, tk_dr_lo z]; exact h.1 i (by omega)
    · rw [tk_dr_hi (by omega), tk_dr_hi (by omega)]; exact h.1 (i + 1) (by omega)
  · by_cases z : j < q
    · rw [tk_dr_lo z, tk_dr_lo z, tk_dr_lo (j := i) (by omega), tk_dr_lo (j := i) (by omega)]; exact h.2 i j hi (by omega)
    · rw [tk_dr_hi (j := j) (by omega), tk_dr_hi (j := j) (by omega)]
      by_cases w : i < q
      · rw [tk_dr_lo w, tk_dr_lo w]; exact h.2 i (j + 1) (by omega) (by omega)
      · rw [tk_dr_hi (j := i) (by omega), tk_dr_hi (j := i) (by omega)]; exact h.2 (i + 1) (j + 1) (by omega) (by omega)
/-! depth and cover -/
def tk_dp (n : Nat) (s e : Nat → Nat) (p : Nat) : Nat := tk_cb (fun i => decide (s i ≤ p ∧ p < e i)) n
def tk_cv (n : Nat) (s e : Nat → Nat) : Nat → Bool := fun p => decide (0 < tk_dp n s e p)
theorem tk_cv_iff {n p : Nat} {s e : Nat → Nat} : tk_cv n s e p = true ↔ ∃ i, i < n ∧ s i ≤ p ∧ p < e i := by
  constructor
  · intro h
    obtain ⟨i, hi, h2⟩ := tk_cb_ex (of_decide_eq_true h)
    exact ⟨i, hi, of_decide_eq_true h2⟩
  · intro ⟨i, hi, h2⟩
    exact decide_eq_true (tk_cb_pos hi (decide_eq_true h2))
theorem tk_dp_t {n p : Nat} {s e : Nat → Nat} (h : s n ≤ p ∧ p < e n) : tk_dp (n + 1) s e p = tk_dp n s e p + 1 := tk_cb_t (decide_eq_true h)
theorem tk_dp_f {n p : Nat} {s e : Nat → Nat} (h : ¬ (s n ≤ p ∧ p < e n)) : tk_dp (n + 1) s e p = tk_dp n s e p := tk_cb_f (fun z => h (of_decide_eq_true z))
theorem tk_dp_le (n : Nat) (s e : Nat → Nat) (p : Nat) : tk_dp n s e p ≤ n := tk_cb_le _ _
theorem tk_dp_fn {n p : Nat} {s e s' e' : Nat → Nat} (q : ∀ i, i < n → s' i = s i ∧ e' i = e i) : tk_dp n s' e' p = tk_dp n s e p := by
  refine tk_cb_congr n (fun i hi => ?_)
  rw [(q i hi).1, (q i hi).2]
theorem tk_cv_S {n p : Nat} {s e : Nat → Nat} : tk_cv (n + 1) s e p = true ↔ tk_cv n s e p = true ∨ (s n ≤ p ∧ p < e n) := by
  rw [tk_cv_iff, tk_cv_iff]
  constructor
  · intro ⟨i, hi, h2⟩
    by_cases z : i = n
    · subst z; exact Or.inr h2
    · exact Or.inl ⟨i, by omega, h2⟩
  · intro h
    rcases h with ⟨i, hi, h2⟩ | h2
    · exact ⟨i, by omega, h2⟩
    · exact ⟨n, by omega, h2⟩
theorem tk_cv_64 {n p : Nat} {s e : Nat → Nat} (h : tk_so n s e) (hp : 64 ≤ p) : ¬ tk_cv n s e p = true := by
  intro z
  obtain ⟨i, hi, h2⟩ := tk_cv_iff.mp z
  have a := h.1 i hi
  omega
/-- a stretch that overlaps or touches the last run -/
theorem tk_tr_m {r i v : Nat} {s e rs re re' : Nat → Nat} (h : tk_nf r rs re (tk_cv i s e) 65) (hr : 0 < r) (h1 : rs (r - 1) ≤ s i) (h2 : s i ≤ re (r - 1)) (h3 : s i < e i) (h4 : e i ≤ 64)
    (e1 : ∀ k, k < r → k ≠ r - 1 → re' k = re k) (e2 : re' (r - 1) = v) (ev : v = re (r - 1) ∧ e i ≤ re (r - 1) ∨ v = e i ∧ re (r - 1) < e i) : tk_nf r rs re' (tk_cv (i + 1) s e) 65 := by
  obtain ⟨g1, g2, g3⟩ := h
  refine ⟨fun k hk => ?_, fun j k hj hk => ?_, fun p hp => ?_⟩
  · have a := g1 k hk
    by_cases z : k = r - 1
    · subst z; omega
    · have b := e1 k hk z
      omega
  · have b := e1 j (by omega) (by omega)
    have a := g2 j k hj hk
    omega
  · rw [tk_cv_S, g3 p hp]
    constructor
    · intro w
      rcases w with ⟨k, hk, a1, a2⟩ | ⟨a1, a2⟩
      · by_cases z : k = r - 1
        · subst z
          exact ⟨r - 1, by omega, a1, by omega⟩
        · have b := e1 k hk z
          exact ⟨k, hk, a1, by omega⟩
      · exact ⟨r - 1, by omega, by omega, by omega⟩
    · intro ⟨k, hk, a1, a2⟩
      by_cases z : k = r - 1
      · subst z
        by_cases w : p < re (r - 1)
        · exact Or.inl ⟨r - 1, by omega, a1, w⟩
        · exact Or.inr ⟨by omega, by omega⟩
      · have b := e1 k hk z
        exact Or.inl ⟨k, hk, a1, by omega⟩
theorem tk_tr_a {r i : Nat} {s e rs re rs' re' : Nat → Nat} (h : tk_nf r rs re (tk_cv i s e) 65) (hr : 0 < r → re (r - 1) < s i) (h3 : s i < e i) (h4 : e i ≤ 64)
    (q : ∀ k, k < r → rs' k = rs k ∧ re' k = re k) (e1 : rs' r = s i) (e2 : re' r = e i) : tk_nf (r + 1) rs' re' (tk_cv (i + 1) s e) 65 := by
  obtain ⟨g1, g2, g3⟩ := h
  refine ⟨fun k hk => ?_, fun j k hj hk => ?_, fun p hp => ?_⟩
  · by_cases z : k = r
    · subst z; omega
    · have b := q k (by omega)
      have a := g1 k (by omega)
      omega
  · have b := q j (by omega)
    by_cases z : k = r
    · subst z
      have c := hr (by omega)
      by_cases w : j = k - 1
      · subst w; omega
      · have d := g2 j (k - 1) (by omega) (by omega)
        have d2 := g1 (k - 1) (by omega)
        omega
    · have c := q k (by omega)
      have d := g2 j k hj (by omega)
      omega
  · rw [tk_cv_S, g3 p hp]
    constructor
    · intro w
      rcases w with ⟨k, hk, a1, a2⟩ | ⟨a1, a2⟩
      · have b := q k hk
        exact ⟨k, by omega, by omega, by omega⟩
      · exact ⟨r, by omega, by omega, by omega⟩
    · intro ⟨k, hk, a1, a2⟩
      by_cases z : k = r
      · subst z
        exact Or.inr ⟨by omega, by omega⟩
      · have b := q k (by omega)
        exact Or.inl ⟨k, by omega, by omega, by omega⟩
/-! the three tracks -/
def tk_st {α : Type} (F : Nat → α) (t : Nat) (g : α) : Nat → α := fun j => if j = t then g else F j
theorem tk_st_at {α : Type} {F : Nat → α} {t : Nat} {g : α} : tk_st F t g t = g := if_pos rfl
theorem tk_st_ne {α : Type} {F : Nat → α} {t j : Nat} {g : α} (h : j ≠ t) : tk_st F t g j = F j := if_neg h
def tk_ok (N : Nat → Nat) (S E : Nat → Nat → Nat) : Prop := ∀ t, t < 3 → N t ≤ 32 ∧ tk_so (N t) (S t) (E t)
def tk_pz (N : Nat → Nat) (z : Nat → Int32) : Prop := ∀ t, t < 3 → z t = nI (N t)
def tk_pa (N : Nat → Nat) (S : Nat → Nat → Nat) (x : Nat → Int32) : Prop := ∀ t, t < 3 → ∀ i, i < N t → x (32 * t + i) = nI (S t i)
theorem tk_ok_st {N : Nat → Nat} {S E : Nat → Nat → Nat} {t n : Nat} {s e : Nat → Nat} (h : tk_ok N S E) (hn : n ≤ 32) (hs : tk_so n s e) : tk_ok (tk_st N t n) (tk_st S t s) (tk_st E t e) := by
  intro j hj
  by_cases z : j = t
  · subst z
    rw [tk_st_at, tk_st_at, tk_st_at]
    exact ⟨hn, hs⟩
  · rw [tk_st_ne z, tk_st_ne z, tk_st_ne z]
    exact h j hj
theorem tk_pz_st {N : Nat → Nat} {z : Nat → Int32} {t n : Nat} {v : Int32} (h : tk_pz N z) (e : v = nI n) : tk_pz (tk_st N t n) (upd z t v) := by
  intro j hj
  by_cases w : j = t
  · subst w
    rw [tk_st_at, pk_us, e]
  · rw [tk_st_ne w, pk_un w]
    exact h j hj
/-- a store into one track -/
theorem tk_pa_st {N : Nat → Nat} {S : Nat → Nat → Nat} {x x' : Nat → Int32} {t n : Nat} {s : Nat → Nat} (h : tk_pa N S x) (hN : ∀ j, j < 3 → N j ≤ 32) (h1 : ∀ i, i < n → x' (32 * t + i) = nI (s i)) (h2 : ∀ j, j < 32 * t ∨ 32 * t + 32 ≤ j → x' j = x j) : tk_pa (tk_st N t n) (tk_st S t s) x' := by
  intro j hj i hi
  by_cases w : j = t
  · subst w
    rw [tk_st_at] at hi
    rw [tk_st_at]
    exact h1 i hi
  · rw [tk_st_ne w] at hi
    rw [tk_st_ne w]
    have a := hN j hj
    rw [h2 (32 * j + i) (by omega)]
    exact h j hj i hi
/-! closed forms of the loops' stores -/
def tk_iw (x : Nat → Int32) (l q k : Nat) (v : Int32) : Nat → Int32 := fun j => if j = l + q then v else if l + q < j ∧ j ≤ l + k then x (j - 1) else x j
theorem tk_iw_0 {x : Nat → Int32} {l k : Nat} {v : Int32} : upd x (l + k) v = tk_iw x l k k v := by
  funext j
  unfold tk_iw upd
  by_cases z : j = l + k
  · rw [if_pos z, if_pos z]
  · rw [if_neg z, if_neg z, if_neg (by omega)]
theorem tk_iw_S {x : Nat → Int32} {l q k : Nat} {v : Int32} (h : q ≤ k) : tk_iw (upd x (l + k + 1) (x (l + k))) l q k v = tk_iw x l q (k + 1) v := by
  funext j
  unfold tk_iw upd
  by_cases z : j = l + q
  · rw [if_pos z, if_pos z]
  · rw [if_neg z, if_neg z]
    by_cases z2 : l + q < j ∧ j ≤ l + k
    · rw [if_pos z2, if_neg (by omega), if_pos (by omega)]
    · rw [if_neg z2]
      by_cases z3 : j = l + k + 1
      · subst z3
        rw [if_pos rfl, if_pos (by omega)]
        rfl
      · rw [if_neg z3, if_neg (by omega)]
theorem tk_pa_in {N : Nat → Nat} {S : Nat → Nat → Nat} {x : Nat → Int32} {t q v : Nat} (h : tk_pa N S x) (hN : ∀ j, j < 3 → N j ≤ 32) (ht : t < 3) (hn : N t < 32) (hq : q ≤ N t) : tk_pa (tk_st N t (N t + 1)) (tk_st S t (tk_in (S t) q v)) (tk_iw x (32 * t) q (N t) (nI v)) := by
  refine tk_pa_st h hN (fun i hi => ?_) (fun j hj => ?_)
  · unfold tk_iw
    rcases Nat.lt_trichotomy i q with z | z | z
    · rw [if_neg (by omega), if_neg (by omega), tk_in_lo z]
      exact h t ht i (by omega)
    · subst z
      rw [if_pos rfl, tk_in_at]
    · rw [if_neg (by omega), if_pos (by omega), tk_in_hi z, show 32 * t + i - 1 = 32 * t + (i - 1) by omega]
      exact h t ht (i - 1) (by omega)
  · unfold tk_iw
    rw [if_neg (by omega), if_neg (by omega)]
def tk_dw (x : Nat → Int32) (l u : Nat) : Nat → Int32 := fun j => if l ≤ j ∧ j + 1 < u then x (j + 1) else x j
theorem tk_dw_0 {x : Nat → Int32} {l u : Nat} (h : u ≤ l + 1) : tk_dw x l u = x := by
  funext j
  unfold tk_dw
  rw [if_neg (by omega)]
theorem tk_dw_S {x : Nat → Int32} {l u : Nat} (h : l + 1 < u) : tk_dw (upd x l (x (l + 1))) (l + 1) u = tk_dw x l u := by
  funext j
  unfold tk_dw upd
  by_cases z : j = l
  · subst z
    rw [if_neg (by omega), if_pos rfl, if_pos (by omega)]
  · by_cases z2 : l + 1 ≤ j ∧ j + 1 < u
    · rw [if_pos z2, if_neg (by omega), if_pos (by omega)]
    · rw [if_neg z2, if_neg z, if_neg (by omega)]
theorem tk_pa_dr {N : Nat → Nat} {S : Nat → Nat → Nat} {x : Nat → Int32} {t q : Nat} (h : tk_pa N S x) (hN : ∀ j, j < 3 → N j ≤ 32) (ht : t < 3) (hq : q < N t) : tk_pa (tk_st N t (N t - 1)) (tk_st S t (tk_dr (S t) q)) (tk_dw x (32 * t + q) (32 * t + N t)) := by
  have hn := hN t ht
  refine tk_pa_st h hN (fun i hi => ?_) (fun j hj => ?_)
  · unfold tk_dw
    by_cases z : i < q
    · rw [if_neg (by omega), tk_dr_lo z]
      exact h t ht i (by omega)
    · rw [if_pos (by omega), tk_dr_hi (by omega)]
      exact h t ht (i + 1) (by omega)
  · unfold tk_dw
    rw [if_neg (by omega)]
def tk_sw (x y : Nat → Int32) (l k r : Nat) : Nat → Int32 := fun j => if l + k ≤ j ∧ j < l + r then y (j - l) else x j
theorem tk_sw_0 {x y : Nat → Int32} {l k r : Nat} (h : r ≤ k) : tk_sw x y l k r = x := by
  funext j
  unfold tk_sw
  rw [if_neg (by omega)]
theorem tk_sw_S {x y : Nat → Int32} {l k r : Nat} (h : k < r) : tk_sw (upd x (l + k) (y k)) y l (k + 1) r = tk_sw x y l k r := by
  funext j
  unfold tk_sw upd
  by_cases z : j = l + k
  · subst z
    rw [if_neg (by omega), if_pos rfl, if_pos (by omega), show l + k - l = k by omega]
  · by_cases z2 : l + (k + 1) ≤ j ∧ j < l + r
    · rw [if_pos z2, if_pos (by omega)]
    · rw [if_neg z2, if_neg z, if_neg (by omega)]
theorem tk_pa_sw {N : Nat → Nat} {S : Nat → Nat → Nat} {x y : Nat → Int32} {t r : Nat} {s : Nat → Nat} (h : tk_pa N S x) (hN : ∀ j, j < 3 → N j ≤ 32) (hr : r ≤ 32) (hy : ∀ k, k < r → y k = nI (s k)) : tk_pa (tk_st N t r) (tk_st S t s) (tk_sw x y (32 * t) 0 r) := by
  refine tk_pa_st h hN (fun i hi => ?_) (fun j hj => ?_)
  · unfold tk_sw
    rw [if_pos (by omega), show 32 * t + i - 32 * t = i by omega]
    exact hy i hi
  · unfold tk_sw
    rw [if_neg (by omega)]
def tk_cw (x : Nat → Int32) (l m k r : Nat) : Nat → Int32 := fun j => if l + k ≤ j ∧ j < l + r then x (m + (j - l)) else x j
theorem tk_cw_0 {x : Nat → Int32} {l m k r : Nat} (h : r ≤ k) : tk_cw x l m k r = x := by
  funext j
  unfold tk_cw
  rw [if_neg (by omega)]
theorem tk_cw_S {x : Nat → Int32} {t u k r : Nat} (h : k < r) (hr : r ≤ 32) : tk_cw (upd x (32 * t + k) (x (32 * u + k))) (32 * t) (32 * u) (k + 1) r = tk_cw x (32 * t) (32 * u) k r := by
  funext j
  unfold tk_cw upd
  by_cases z : j = 32 * t + k
  · subst z
    rw [if_neg (by omega), if_pos rfl, if_pos (by omega), show 32 * t + k - 32 * t = k by omega]
  · by_cases z2 : 32 * t + (k + 1) ≤ j ∧ j < 32 * t + r
    · rw [if_pos z2, if_neg (by omega), if_pos (by omega)]
    · rw [if_neg z2, if_neg z, if_neg (by omega)]
theorem tk_pa_cw {N : Nat → Nat} {S : Nat → Nat → Nat} {x : Nat → Int32} {t u r : Nat} (h : tk_pa N S x) (hN : ∀ j, j < 3 → N j ≤ 32) (hu : u < 3) (hr : N u ≤ r) (hr2 : r ≤ 32) : tk_pa (tk_st N t (N u)) (tk_st S t (S u)) (tk_cw x (32 * t) (32 * u) 0 r) := by
  refine tk_pa_st h hN (fun i hi => ?_) (fun j hj => ?_)
  · unfold tk_cw
    rw [if_pos (by omega), show 32 * t + i - 32 * t = i by omega]
    exact h u hu i hi
  · unfold tk_cw
    rw [if_neg (by omega)]
end
section
/-! the nearest stretch before i that i lies in: g = 0 for none, g = j + 1 for number j -/
def tk_nr (e : Nat → Nat) (i g : Nat) : Prop := g ≤ i ∧ (0 < g → e i ≤ e (g - 1)) ∧ ∀ j, g ≤ j → j < i → e j < e i
/-- the lists of those with the same holder -/
def tk_pd (n : Nat) (e pr F M L : Nat → Nat) : Prop :=
  (∀ i, i < n → tk_nr e i (pr i)) ∧ (∀ g, g ≤ n → F g + M g ≤ n) ∧ (∀ g, g ≤ n → ∀ p, F g ≤ p → p < F g + M g → L p < n ∧ pr (L p) = g)
  ∧ (∀ g, g ≤ n → ∀ p q, F g ≤ p → p < q → q < F g + M g → L p < L q) ∧ (∀ i, i < n → ∃ p, F (pr i) ≤ p ∧ p < F (pr i) + M (pr i) ∧ L p = i)
def tk_bd (n : Nat) (e : Nat → Nat) (li fi mi : Nat → Int32) : Prop :=
  ∃ pr F M L : Nat → Nat, (∀ g, g ≤ n → fi g = nI (F g) ∧ mi g = nI (M g)) ∧ (∀ p, p < n → li p = nI (L p)) ∧ tk_pd n e pr F M L
/-- in one list ends rise -/
theorem tk_pd_e {n g p q : Nat} {e pr F M L : Nat → Nat} (h : tk_pd n e pr F M L) (hg : g ≤ n) (h1 : F g ≤ p) (h2 : p < q) (h3 : q < F g + M g) : L p < L q ∧ e (L p) < e (L q) := by
  obtain ⟨a1, a2, a3, a4, a5⟩ := h
  have b := a4 g hg p q h1 h2 h3
  have c := a3 g hg p h1 (by omega)
  have d := a3 g hg q (by omega) h3
  have f := a1 (L q) d.1
  have f2 := a1 (L p) c.1
  refine ⟨b, f.2.2 (L p) ?_ b⟩
  rw [d.2, ← c.2]
  exact f2.1
/-! stretches that overlap (a, b) -/
def tk_hp (s e : Nat → Nat) (a b : Nat) : Nat → Bool := fun i => decide (s i < b ∧ a < e i)
/-- what is found (fd) and what waits (Z, w of them) -/
def tk_f1 (n : Nat) (hp : Nat → Bool) (pr : Nat → Nat) (fd : Nat → Bool) (w : Nat) (Z : Nat → Nat) : Prop :=
  (∀ i, fd i = true → i < n ∧ hp i = true) ∧ (∀ k, k < w → Z k ≤ n ∧ (0 < Z k → fd (Z k - 1) = true)) ∧ (∀ k, k < w → ∀ i, fd i = true → pr i ≠ Z k)
  ∧ (∀ j k, j < k → k < w → Z j ≠ Z k) ∧ (∀ i, fd i = true → 0 < pr i → fd (pr i - 1) = true)
def tk_f7 (n : Nat) (hp : Nat → Bool) (pr : Nat → Nat) (fd : Nat → Bool) (w : Nat) (Z : Nat → Nat) : Prop :=
  ∀ i, i < n → hp i = true → (pr i = 0 ∨ fd (pr i - 1) = true) → fd i = true ∨ ∃ k, k < w ∧ Z k = pr i
/-- amid the list of g, at place p -/
def tk_fm (n : Nat) (hp : Nat → Bool) (pr F M L : Nat → Nat) (fd : Nat → Bool) (w : Nat) (Z : Nat → Nat) (g p : Nat) : Prop :=
  tk_f1 n hp pr fd w Z ∧ (g ≤ n ∧ (0 < g → fd (g - 1) = true)) ∧ (∀ i, fd i = true → pr i = g → ∃ q, F g ≤ q ∧ q < p ∧ L q = i) ∧ (∀ k, k < w → Z k ≠ g)
  ∧ (∀ i, i < n → hp i = true → (pr i = 0 ∨ fd (pr i - 1) = true) → fd i = true ∨ (∃ k, k < w ∧ Z k = pr i) ∨ (pr i = g ∧ ∃ q, p ≤ q ∧ q < F g + M g ∧ L q = i))
theorem tk_f_0 {n : Nat} {hp : Nat → Bool} {pr Z : Nat → Nat} (hz : Z 0 = 0) : tk_f1 n hp pr (fun _ => false) 1 Z ∧ tk_f7 n hp pr (fun _ => false) 1 Z := by
  refine ⟨⟨fun i h => ?_, fun k hk => ?_, fun k hk i h => ?_, fun j k hj hk => ?_, fun i h => ?_⟩, fun i hi h1 h2 => ?_⟩
  · cases h
  · have z : k = 0 := by omega
    subst z
    exact ⟨by omega, fun z => by omega⟩
  · cases h
  · omega
  · cases h
  · rcases h2 with h2 | h2
    · exact Or.inr ⟨0, by omega, by omega⟩
    · cases h2
/-- a list begins: those before the place p end too early -/
theorem tk_f_in {n w p a b : Nat} {s e pr F M L Z : Nat → Nat} {fd : Nat → Bool} (hd : tk_pd n e pr F M L)
    (h1 : tk_f1 n (tk_hp s e a b) pr fd (w + 1) Z) (h7 : tk_f7 n (tk_hp s e a b) pr fd (w + 1) Z)
    (hq : ∀ q, F (Z w) ≤ q → q < p → e (L q) ≤ a) : tk_fm n (tk_hp s e a b) pr F M L fd w Z (Z w) p := by
  obtain ⟨c1, c2, c3, c4, c5⟩ := h1
  refine ⟨⟨c1, fun k hk => c2 k (by omega), fun k hk => c3 k (by omega), fun j k hj hk => c4 j k hj (by omega), c5⟩, c2 w (by omega), fun i hi hg => ?_, fun k hk => c4 k w hk (by omega), fun i hi hh hpar => ?_⟩
  · exact absurd hg (c3 w (by omega) i hi)
  · rcases h7 i hi hh hpar with z | ⟨k, hk, z⟩
    · exact Or.inl z
    · by_cases y : k = w
      · subst y
        obtain ⟨q, q1, q2, q3⟩ := hd.2.2.2.2 i hi
        refine Or.inr (Or.inr ⟨z.symm, q, ?_, by rw [z]; exact q2, q3⟩)
        by_cases y2 : q < p
        · have y3 := hq q (by rw [z]; exact q1) y2
          have y4 := of_decide_eq_true hh
          rw [q3] at y3
          omega
        · omega
      · exact Or.inr (Or.inl ⟨k, by omega, z⟩)
/-- a list ends: those from the place p on start too late -/
theorem tk_f_out {n w g p a b : Nat} {s e pr F M L Z : Nat → Nat} {fd : Nat → Bool}
    (h : tk_fm n (tk_hp s e a b) pr F M L fd w Z g p) (hq : ∀ q, p ≤ q → q < F g + M g → b ≤ s (L q)) :
    tk_f1 n (tk_hp s e a b) pr fd w Z ∧ tk_f7 n (tk_hp s e a b) pr fd w Z := by
  obtain ⟨h1, _, _, _, h7⟩ := h
  refine ⟨h1, fun i hi hh hpar => ?_⟩
  rcases h7 i hi hh hpar with z | z | ⟨_, q, q1, q2, q3⟩
  · exact Or.inl z
  · exact Or.inr z
  · have y3 := hq q q1 q2
    have y4 := of_decide_eq_true hh
    rw [q3] at y3
    omega
def tk_ad (fd : Nat → Bool) (i : Nat) : Nat → Bool := fun j => decide (j = i) || fd j
theorem tk_ad_iff {fd : Nat → Bool} {i j : Nat} : tk_ad fd i j = true ↔ j = i ∨ fd j = true := by
  simp [tk_ad]
theorem tk_f_new {n w g p : Nat} {e pr F M L Z : Nat → Nat} {hp fd : Nat → Bool} (hd : tk_pd n e pr F M L) (h : tk_fm n hp pr F M L fd w Z g p) (h1 : F g ≤ p) (h2 : p < F g + M g) : ¬ fd (L p) = true := by
  intro z
  have a := hd.2.2.1 g h.2.1.1 p h1 h2
  obtain ⟨q, q1, q2, q3⟩ := h.2.2.1 (L p) z a.2
  have b := hd.2.2.2.1 g h.2.1.1 q p q1 q2 h2
  omega
/-- the next of the list is found; it waits if it has a list itself -/
theorem tk_f_step {n w w' g p : Nat} {e pr F M L Z Z' : Nat → Nat} {hp fd : Nat → Bool} (hd : tk_pd n e pr F M L) (h : tk_fm n hp pr F M L fd w Z g p) (h1 : F g ≤ p) (h2 : p < F g + M g)
    (hh : hp (L p) = true) (hZ : ∀ k, k < w → Z' k = Z k) (hw : w' = w ∧ M (L p + 1) = 0 ∨ w' = w + 1 ∧ Z' w = L p + 1) :
    tk_fm n hp pr F M L (tk_ad fd (L p)) w' Z' g (p + 1) := by
  have hnew := tk_f_new hd h h1 h2
  obtain ⟨⟨c1, c2, c3, c4, c5⟩, ⟨d1, d2⟩, d3, d4, d5⟩ := h
  have a := hd.2.2.1 g d1 p h1 h2
  have anr := hd.1 (L p) a.1
  have hZ2 : ∀ k, k < w' → (k < w ∧ Z' k = Z k) ∨ (k = w ∧ w' = w + 1 ∧ Z' k = L p + 1) := by
    intro k hk
    by_cases z : k < w
    · exact Or.inl ⟨z, hZ k z⟩
    · rcases hw with ⟨z1, _⟩ | ⟨z1, z2⟩
      · omega
      · have z3 : k = w := by omega
        subst z3
        exact Or.inr ⟨rfl, z1, z2⟩
  have mono : ∀ j, fd j = true → tk_ad fd (L p) j = true := fun j z => tk_ad_iff.mpr (Or.inr z)
  refine ⟨⟨fun i hi => ?_, fun k hk => ?_, fun k hk i hi => ?_, fun j k hj hk => ?_, fun i hi h0 => ?_⟩, ⟨d1, fun z => mono _ (d2 z)⟩, fun i hi hg => ?_, fun k hk => ?_, fun i hi hhi hpar => ?_⟩
  · rcases tk_ad_iff.mp hi with z | z
    · subst z; exact ⟨a.1, hh⟩
    · exact c1 i z
  · rcases hZ2 k hk with ⟨z1, z2⟩ | ⟨_, _, z2⟩
    · rw [z2]
      exact ⟨(c2 k z1).1, fun y => mono _ ((c2 k z1).2 y)⟩
    · rw [z2]
      exact ⟨by omega, fun _ => tk_ad_iff.mpr (Or.inl (by omega))⟩
  · rcases hZ2 k hk with ⟨z1, z2⟩ | ⟨_, _, z2⟩
    · rw [z2]
      rcases tk_ad_iff.mp hi with z | z
      · rw [z, a.2]
        exact fun y => d4 k z1 y.symm
      · exact c3 k z1 i z
    · rw [z2]
      intro y
      rcases tk_ad_iff.mp hi with z | z
      · rw [z] at y
        have y2 := anr.1
        omega
      · have y2 := c5 i z (by omega)
        rw [y, show L p + 1 - 1 = L p by omega] at y2
        exact hnew y2
  · rcases hZ2 k hk with ⟨z1, z2⟩ | ⟨z0, _, z2⟩
    · rw [z2, hZ j (by omega)]
      exact c4 j k hj z1
    · rw [z2, hZ j (by omega)]
      intro y
      have y2 := (c2 j (by omega)).2 (by omega)
      rw [y, show L p + 1 - 1 = L p by omega] at y2
      exact hnew y2
  · rcases tk_ad_iff.mp hi with z | z
    · rw [z, a.2]
      rw [z, a.2] at h0
      exact mono _ (d2 h0)
    · exact mono _ (c5 i z h0)
  · rcases tk_ad_iff.mp hi with z | z
    · exact ⟨p, h1, by omega, z.symm⟩
    · obtain ⟨q, q1, q2, q3⟩ := d3 i z hg
      exact ⟨q, q1, by omega, q3⟩
  · rcases hZ2 k hk with ⟨z1, z2⟩ | ⟨_, _, z2⟩
    · rw [z2]; exact d4 k z1
    · rw [z2]
      have y2 := anr.1
      rw [a.2] at y2
      omega
  · by_cases y : i = L p
    · exact Or.inl (tk_ad_iff.mpr (Or.inl y))
    · have key : (pr i = 0 ∨ fd (pr i - 1) = true) → tk_ad fd (L p) i = true ∨ (∃ k, k < w' ∧ Z' k = pr i) ∨ (pr i = g ∧ ∃ q, p + 1 ≤ q ∧ q < F g + M g ∧ L q = i) := by
        intro hp2
        rcases d5 i hi hhi hp2 with z | ⟨k, hk, z⟩ | ⟨z, q, q1, q2, q3⟩
        · exact Or.inl (mono _ z)
        · refine Or.inr (Or.inl ⟨k, by omega, ?_⟩)
          rw [hZ k hk]; exact z
        · refine Or.inr (Or.inr ⟨z, q, ?_, q2, q3⟩)
          by_cases y2 : q = p
          · subst y2; exact absurd q3.symm y
          · omega
      rcases hpar with z | z
      · exact key (Or.inl z)
      · rcases tk_ad_iff.mp z with z2 | z2
        · by_cases y0 : pr i = 0
          · exact key (Or.inl y0)
          · have y1 : pr i = L p + 1 := by omega
            rcases hw with ⟨w1, w2⟩ | ⟨w1, w2⟩
            · obtain ⟨q, q1, q2, q3⟩ := hd.2.2.2.2 i hi
              rw [y1] at q1 q2
              omega
            · exact Or.inr (Or.inl ⟨w, by omega, by rw [w2, y1]⟩)
        · exact key (Or.inr z2)
/-- nothing waits: all are found -/
theorem tk_f_all {n a b : Nat} {s e pr F M L Z : Nat → Nat} {fd : Nat → Bool} (hs : tk_so n s e) (hd : tk_pd n e pr F M L) (h7 : tk_f7 n (tk_hp s e a b) pr fd 0 Z) : ∀ i, i < n → tk_hp s e a b i = true → fd i = true := by
  intro i
  induction i using Nat.strongRecOn with
  | ind i ih =>
    intro hi hh
    have nr := hd.1 i hi
    have fin : (pr i = 0 ∨ fd (pr i - 1) = true) → fd i = true := by
      intro z
      rcases h7 i hi hh z with y | ⟨k, hk, _⟩
      · exact y
      · omega
    by_cases z : pr i = 0
    · exact fin (Or.inl z)
    · refine fin (Or.inr (ih (pr i - 1) (by have y := nr.1; omega) (by have y := nr.1; omega) (decide_eq_true ?_)))
      have c1 := nr.2.1 (by omega)
      have c2 := tk_so_le hs (show pr i - 1 ≤ i by have y := nr.1; omega) hi
      have c3 := of_decide_eq_true hh
      omega
/-! a new number among the found ones -/
theorem tk_en_ad {c n i q : Nat} {H H' : Nat → Nat} {fd : Nat → Bool} (h : tk_en c H n fd) (hi : i < n) (hq : q ≤ c) (hlo : ∀ k, k < q → H k < i) (hhi : ∀ k, q ≤ k → k < c → i < H k)
    (e1 : ∀ k, k < q → H' k = H k) (e2 : H' q = i) (e3 : ∀ k, q < k → k < c + 1 → H' k = H (k - 1)) : tk_en (c + 1) H' n (tk_ad fd i) := by
  obtain ⟨h1, h2, h3⟩ := h
  refine ⟨fun k hk => ?_, fun j k hj hk => ?_, fun j hj hd => ?_⟩
  · rcases Nat.lt_trichotomy k q with z | z | z
    · rw [e1 k z]
      have a := h1 k (by omega)
      exact ⟨a.1, tk_ad_iff.mpr (Or.inr a.2)⟩
    · subst z
      rw [e2]
      exact ⟨hi, tk_ad_iff.mpr (Or.inl rfl)⟩
    · rw [e3 k z hk]
      have a := h1 (k - 1) (by omega)
      exact ⟨a.1, tk_ad_iff.mpr (Or.inr a.2)⟩
  · rcases Nat.lt_trichotomy k q with z | z | z
    · rw [e1 k z, e1 j (by omega)]
      exact h2 j k hj (by omega)
    · subst z
      rw [e2, e1 j hj]
      exact hlo j hj
    · rw [e3 k z hk]
      rcases Nat.lt_trichotomy j q with w | w | w
      · rw [e1 j w]
        exact h2 j (k - 1) (by omega) (by omega)
      · subst w
        rw [e2]
        exact hhi (k - 1) (by omega) (by omega)
      · rw [e3 j w (by omega)]
        exact h2 (j - 1) (k - 1) (by omega) (by omega)
  · rcases tk_ad_iff.mp hd with z | z
    · exact ⟨q, by omega, by rw [e2, z]⟩
    · obtain ⟨k, hk, e⟩ := h3 j hj z
      by_cases w : k < q
      · exact ⟨k, by omega, by rw [e1 k w]; exact e⟩
      · refine ⟨k + 1, by omega, ?_⟩
        rw [e3 (k + 1) (by omega) (by omega)]
        exact e
/-! the holders, by a stack z of depth d -/
def tk_top (z : Nat → Nat) (d : Nat) : Nat := if d = 0 then 0 else z (d - 1) + 1
def tk_h1 (e pr z : Nat → Nat) (i d : Nat) : Prop :=
  (∀ j, j < i → tk_nr e j (pr j)) ∧ d ≤ i ∧ tk_top z d = i ∧ (∀ k, k < d → z k < i ∧ pr (z k) = tk_top z k)
theorem tk_h1_0 {e pr z : Nat → Nat} : tk_h1 e pr z 0 0 :=
  ⟨fun j h => absurd h (Nat.not_lt_zero j), Nat.le_refl 0, rfl, fun k h => absurd h (Nat.not_lt_zero k)⟩
theorem tk_top_S {z : Nat → Nat} {d : Nat} : tk_top z (d + 1) = z d + 1 := rfl
theorem tk_h1_pop {e pr z : Nat → Nat} {i d c : Nat} (h : tk_h1 e pr z i d) (hc : c + 1 ≤ d) (h2 : ∀ j, tk_top z (c + 1) ≤ j → j < i → e j < e i) (h3 : e (z c) < e i) : ∀ j, tk_top z c ≤ j → j < i → e j < e i := by
  intro j h4 h5
  have a := h.2.2.2 c (by omega)
  have b := h.1 (z c) a.1
  rw [tk_top_S] at h2
  rcases Nat.lt_trichotomy j (z c) with w | w | w
  · have d1 := b.2.2 j (by rw [a.2]; exact h4) w
    omega
  · rw [w]; exact h3
  · exact h2 j (by omega) h5
theorem tk_h1_put {e pr pr' z z' : Nat → Nat} {i d c : Nat} (h : tk_h1 e pr z i d) (hc : c ≤ d) (h2 : ∀ j, tk_top z c ≤ j → j < i → e j < e i) (h3 : 0 < c → e i ≤ e (z (c - 1)))
    (e1 : ∀ j, j < i → pr' j = pr j) (e2 : pr' i = tk_top z c) (e3 : ∀ k, k < c → z' k = z k) (e4 : z' c = i) : tk_h1 e pr' z' (i + 1) (c + 1) := by
  have tp : ∀ k, k ≤ c → tk_top z' k = tk_top z k := by
    intro k hk
    unfold tk_top
    by_cases y : k = 0
    · rw [if_pos y, if_pos y]
    · rw [if_neg y, if_neg y, e3 (k - 1) (by omega)]
  have tl : tk_top z c ≤ i := by
    unfold tk_top
    by_cases y : c = 0
    · rw [if_pos y]; omega
    · rw [if_neg y]
      have a := h.2.2.2 (c - 1) (by omega)
      omega
  refine ⟨fun j hj => ?_, by have y := h.2.1; omega, ?_, fun k hk => ?_⟩
  · by_cases y : j = i
    · subst y
      rw [e2]
      refine ⟨tl, fun y2 => ?_, h2⟩
      unfold tk_top at y2 ⊢
      by_cases y3 : c = 0
      · rw [if_pos y3] at y2; omega
      · rw [if_neg y3, show z (c - 1) + 1 - 1 = z (c - 1) by omega]
        exact h3 (by omega)
    · rw [e1 j (by omega)]
      exact h.1 j (by omega)
  · rw [tk_top_S, e4]
  · by_cases y : k = c
    · subst y
      rw [e4, e2, tp k (Nat.le_refl _)]
      exact ⟨by omega, rfl⟩
    · rw [e3 k (by omega), tp k (by omega)]
      have a := h.2.2.2 k (by omega)
      rw [e1 (z k) a.1]
      exact ⟨by omega, a.2⟩
/-! the lists: how many are written before number i of the list of g -/
def tk_wr (n : Nat) (pr : Nat → Nat) (g i : Nat) : Nat := tk_cb (fun j => decide (pr j < g ∨ (pr j = g ∧ j < i))) n
theorem tk_wr_00 {n : Nat} {pr : Nat → Nat} : tk_wr n pr 0 0 = 0 := by
  unfold tk_wr
  rw [tk_cb_none (a := 0) n (Nat.zero_le _)]
  · rfl
  · intro i _ _ h
    have a := of_decide_eq_true h
    omega
theorem tk_wr_t {n g i : Nat} {pr : Nat → Nat} (hi : i < n) (h : pr i = g) : tk_wr n pr g (i + 1) = tk_wr n pr g i + 1 := by
  refine tk_cb_one hi (fun z => ?_) (decide_eq_true (Or.inr ⟨h, by omega⟩)) (fun j hj hne => ?_)
  · have a := of_decide_eq_true z
    omega
  · exact decide_eq_decide.mpr (by omega)
theorem tk_wr_f {n g i : Nat} {pr : Nat → Nat} (h : ¬ pr i = g) : tk_wr n pr g (i + 1) = tk_wr n pr g i := by
  refine tk_cb_congr n (fun j hj => ?_)
  refine decide_eq_decide.mpr ?_
  by_cases z : j = i
  · subst z; omega
  · omega
theorem tk_wr_g {n g : Nat} {pr : Nat → Nat} (hp : ∀ i, i < n → pr i ≤ i) : tk_wr n pr (g + 1) (g + 1) = tk_wr n pr g n := by
  refine tk_cb_congr n (fun j hj => ?_)
  have a := hp j hj
  exact decide_eq_decide.mpr (by omega)
theorem tk_wr_lt {n g i : Nat} {pr : Nat → Nat} (hi : i < n) (h : pr i = g) : tk_wr n pr g i < n := by
  refine tk_cb_ltn hi (fun z => ?_)
  have a := of_decide_eq_true z
  omega
theorem tk_wr_le {n g i : Nat} {pr : Nat → Nat} : tk_wr n pr g i ≤ n := tk_cb_le _ _
/-- amid the writing: lists below g are whole, that of g holds those below i -/
def tk_w2 (n : Nat) (pr F M L : Nat → Nat) (g i w : Nat) : Prop :=
  w = tk_wr n pr g i ∧ (∀ h, h < g → F h + M h ≤ w) ∧ (∀ h, h < g → ∀ p, F h ≤ p → p < F h + M h → L p < n ∧ pr (L p) = h)
  ∧ (∀ h, h < g → ∀ p q, F h ≤ p → p < q → q < F h + M h → L p < L q) ∧ (∀ j, j < n → pr j < g → ∃ p, F (pr j) ≤ p ∧ p < F (pr j) + M (pr j) ∧ L p = j)
def tk_w3 (n : Nat) (pr F M L : Nat → Nat) (g i w : Nat) : Prop :=
  tk_w2 n pr F M L g i w ∧ F g ≤ w ∧ (∀ p, F g ≤ p → p < w → L p < n ∧ L p < i ∧ pr (L p) = g) ∧ (∀ p q, F g ≤ p → p < q → q < w → L p < L q)
  ∧ (∀ j, j < n → j < i → pr j = g → ∃ p, F g ≤ p ∧ p < w ∧ L p = j)
theorem tk_w2_0 {n : Nat} {pr F M L : Nat → Nat} : tk_w2 n pr F M L 0 0 0 :=
  ⟨tk_wr_00.symm, fun h z => absurd z (Nat.not_lt_zero h), fun h z => absurd z (Nat.not_lt_zero h), fun h z => absurd z (Nat.not_lt_zero h), fun j _ z => absurd z (Nat.not_lt_zero _)⟩
theorem tk_w3_beg {n g w : Nat} {pr F F' M L : Nat → Nat} (hp : ∀ i, i < n → pr i ≤ i) (h : tk_w2 n pr F M L g g w) (e1 : ∀ k, k < g → F' k = F k) (e2 : F' g = w) : tk_w3 n pr F' M L g g w := by
  obtain ⟨h1, h2, h3, h4, h5⟩ := h
  refine ⟨⟨h1, fun k hk => ?_, fun k hk => ?_, fun k hk => ?_, fun j hj hk => ?_⟩, by omega, fun p a b => by omega, fun p q a b c => by omega, fun j hj a b => ?_⟩
  · rw [e1 k hk]; exact h2 k hk
  · rw [e1 k hk]; exact h3 k hk
  · rw [e1 k hk]; exact h4 k hk
  · rw [e1 _ hk]; exact h5 j hj hk
  · have c := hp j hj
    omega
theorem tk_w3_f {n g i w : Nat} {pr F M L : Nat → Nat} (h : tk_w3 n pr F M L g i w) (hi : ¬ pr i = g) : tk_w3 n pr F M L g (i + 1) w := by
  obtain ⟨⟨h1, h2⟩, h3, h4, h5, h6⟩ := h
  refine ⟨⟨by rw [tk_wr_f hi]; exact h1, h2⟩, h3, fun p a b => ?_, h5, fun j hj a b => ?_⟩
  · have c := h4 p a b
    exact ⟨c.1, by omega, c.2.2⟩
  · by_cases z : j = i
    · subst z; exact absurd b hi
    · exact h6 j hj (by omega) b
theorem tk_w3_t {n g i w : Nat} {pr F M L L' : Nat → Nat} (h : tk_w3 n pr F M L g i w) (hn : i < n) (hi : pr i = g) (e1 : ∀ p, p < w → L' p = L p) (e2 : L' w = i) : tk_w3 n pr F M L' g (i + 1) (w + 1) := by
  obtain ⟨⟨h1, h2, h2b, h2c, h2d⟩, h3, h4, h5, h6⟩ := h
  refine ⟨⟨by rw [tk_wr_t hn hi, h1], fun k hk => ?_, fun k hk p a b => ?_, fun k hk p q a b c => ?_, fun j hj hk => ?_⟩, by omega, fun p a b => ?_, fun p q a b c => ?_, fun j hj a b => ?_⟩
  · have z := h2 k hk
    omega
  · have z := h2 k hk
    rw [e1 p (by omega)]
    exact h2b k hk p a b
  · have z := h2 k hk
    rw [e1 p (by omega), e1 q (by omega)]
    exact h2c k hk p q a b c
  · obtain ⟨p, p1, p2, p3⟩ := h2d j hj hk
    have z := h2 (pr j) hk
    exact ⟨p, p1, p2, by rw [e1 p (by omega)]; exact p3⟩
  · by_cases z : p = w
    · subst z
      rw [e2]
      exact ⟨hn, by omega, hi⟩
    · rw [e1 p (by omega)]
      have y := h4 p a (by omega)
      exact ⟨y.1, by omega, y.2.2⟩
  · by_cases z : q = w
    · subst z
      rw [e2, e1 p b]
      exact (h4 p a b).2.1
    · rw [e1 p (by omega), e1 q (by omega)]
      exact h5 p q a b (by omega)
  · by_cases z : j = i
    · exact ⟨w, h3, by omega, by rw [e2, z]⟩
    · obtain ⟨p, p1, p2, p3⟩ := h6 j hj (by omega) b
      exact ⟨p, p1, by omega, by rw [e1 p p2]; exact p3⟩
theorem tk_w3_end {n g w : Nat} {pr F M M' L : Nat → Nat} (hp : ∀ i, i < n → pr i ≤ i) (h : tk_w3 n pr F M L g n w) (e1 : ∀ k, k < g → M' k = M k) (e2 : M' g = w - F g) : tk_w2 n pr F M' L (g + 1) (g + 1) w := by
  obtain ⟨⟨h1, h2, h2b, h2c, h2d⟩, h3, h4, h5, h6⟩ := h
  refine ⟨by rw [tk_wr_g hp]; exact h1, fun k hk => ?_, fun k hk p a b => ?_, fun k hk p q a b c => ?_, fun j hj hk => ?_⟩
  · by_cases z : k = g
    · subst z; omega
    · have y := h2 k (by omega)
      rw [e1 k (by omega)]; exact y
  · by_cases z : k = g
    · subst z
      have y := h4 p a (by omega)
      exact ⟨y.1, y.2.2⟩
    · rw [e1 k (by omega)] at b
      exact h2b k (by omega) p a b
  · by_cases z : k = g
    · subst z
      exact h5 p q a b (by omega)
    · rw [e1 k (by omega)] at c
      exact h2c k (by omega) p q a b c
  · by_cases z : pr j = g
    · obtain ⟨p, p1, p2, p3⟩ := h6 j hj hj z
      rw [z, e2]
      exact ⟨p, p1, by omega, p3⟩
    · obtain ⟨p, p1, p2, p3⟩ := h2d j hj (by omega)
      rw [e1 (pr j) (by omega)]
      exact ⟨p, p1, p2, p3⟩
theorem tk_w2_pd {n i w : Nat} {e pr F M L : Nat → Nat} (hr : ∀ i, i < n → tk_nr e i (pr i)) (h : tk_w2 n pr F M L (n + 1) i w) : tk_pd n e pr F M L := by
  obtain ⟨h1, h2, h3, h4, h5⟩ := h
  have a : tk_wr n pr (n + 1) i ≤ n := tk_wr_le
  refine ⟨hr, fun g hg => ?_, fun g hg => h3 g (by omega), fun g hg => h4 g (by omega), fun j hj => h5 j hj ?_⟩
  · have b := h2 g (by omega)
    omega
  · have b := (hr j hj).1
    omega
end
section
/-! numbers -/
theorem tw_l0a {a : Nat} (h : a < 2 ^ 31) : nI a ≤ 0 ↔ a ≤ 0 := nI_leI (b := 0) h (by decide)
theorem tw_l0b {a : Nat} (h : a < 2 ^ 31) : 0 ≤ nI a ↔ 0 ≤ a := nI_leI (a := 0) (by decide) h
theorem tw_l0c {a : Nat} (h : a < 2 ^ 31) : nI a < 0 ↔ a < 0 := nI_ltI (b := 0) h (by decide)
theorem tw_l0d {a : Nat} (h : a < 2 ^ 31) : 0 < nI a ↔ 0 < a := nI_ltI (a := 0) (by decide) h
theorem tw_l0e {a : Nat} (h : a < 2 ^ 31) : nI a = 0 ↔ a = 0 := nI_eq (b := 0) h (by decide)
theorem tw_l1a {a : Nat} (h : a < 2 ^ 31) : nI a ≤ 1 ↔ a ≤ 1 := nI_leI (b := 1) h (by decide)
theorem tw_l1b {a : Nat} (h : a < 2 ^ 31) : 1 ≤ nI a ↔ 1 ≤ a := nI_leI (a := 1) (by decide) h
theorem tw_l1c {a : Nat} (h : a < 2 ^ 31) : nI a < 1 ↔ a < 1 := nI_ltI (b := 1) h (by decide)
theorem tw_l1d {a : Nat} (h : a < 2 ^ 31) : 1 < nI a ↔ 1 < a := nI_ltI (a := 1) (by decide) h
theorem tw_l1e {a : Nat} (h : a < 2 ^ 31) : nI a = 1 ↔ a = 1 := nI_eq (b := 1) h (by decide)
theorem tw_l2a {a : Nat} (h : a < 2 ^ 31) : nI a ≤ 2 ↔ a ≤ 2 := nI_leI (b := 2) h (by decide)
theorem tw_l2b {a : Nat} (h : a < 2 ^ 31) : 2 ≤ nI a ↔ 2 ≤ a := nI_leI (a := 2) (by decide) h
theorem tw_l2c {a : Nat} (h : a < 2 ^ 31) : nI a < 2 ↔ a < 2 := nI_ltI (b := 2) h (by decide)
theorem tw_l2d {a : Nat} (h : a < 2 ^ 31) : 2 < nI a ↔ 2 < a := nI_ltI (a := 2) (by decide) h
theorem tw_l2e {a : Nat} (h : a < 2 ^ 31) : nI a = 2 ↔ a = 2 := nI_eq (b := 2) h (by decide)
theorem tw_l3a {a : Nat} (h : a < 2 ^ 31) : nI a ≤ 3 ↔ a ≤ 3 := nI_leI (b := 3) h (by decide)
theorem tw_l3b {a : Nat} (h : a < 2 ^ 31) : 3 ≤ nI a ↔ 3 ≤ a := nI_leI (a := 3) (by decide) h
theorem tw_l3c {a : Nat} (h : a < 2 ^ 31) : nI a < 3 ↔ a < 3 := nI_ltI (b := 3) h (by decide)
theorem tw_l3d {a : Nat} (h : a < 2 ^ 31) : 3 < nI a ↔ 3 < a := nI_ltI (a := 3) (by decide) h
theorem tw_l3e {a : Nat} (h : a < 2 ^ 31) : nI a = 3 ↔ a = 3 := nI_eq (b := 3) h (by decide)
theorem tw_l4a {a : Nat} (h : a < 2 ^ 31) : nI a ≤ 4 ↔ a ≤ 4 := nI_leI (b := 4) h (by decide)
theorem tw_l4b {a : Nat} (h : a < 2 ^ 31) : 4 ≤ nI a ↔ 4 ≤ a := nI_leI (a := 4) (by decide) h
theorem tw_l4c {a : Nat} (h : a < 2 ^ 31) : nI a < 4 ↔ a < 4 := nI_ltI (b := 4) h (by decide)
theorem tw_l4d {a : Nat} (h : a < 2 ^ 31) : 4 < nI a ↔ 4 < a := nI_ltI (a := 4) (by decide) h
theorem tw_l4e {a : Nat} (h : a < 2 ^ 31) : nI a = 4 ↔ a = 4 := nI_eq (b := 4) h (by decide)
theorem tw_l7a {a : Nat} (h : a < 2 ^ 31) : nI a ≤ 7 ↔ a ≤ 7 := nI_leI (b := 7) h (by decide)
theorem tw_l7b {a : Nat} (h : a < 2 ^ 31) : 7 ≤ nI a ↔ 7 ≤ a := nI_leI (a := 7) (by decide) h
theorem tw_l7c {a : Nat} (h : a < 2 ^ 31) : nI a < 7 ↔ a < 7 := nI_ltI (b := 7) h (by decide)
theorem tw_l7d {a : Nat} (h : a < 2 ^ 31) : 7 < nI a ↔ 7 < a := nI_ltI (a := 7) (by decide) h
theorem tw_l7e {a : Nat} (h : a < 2 ^ 31) : nI a = 7 ↔ a = 7 := nI_eq (b := 7) h (by decide)
theorem tw_l31a {a : Nat} (h : a < 2 ^ 31) : nI a ≤ 31 ↔ a ≤ 31 := nI_leI (b := 31) h (by decide)
theorem tw_l31b {a : Nat} (h : a < 2 ^ 31) : 31 ≤ nI a ↔ 31 ≤ a := nI_leI (a := 31) (by decide) h
theorem tw_l31c {a : Nat} (h : a < 2 ^ 31) : nI a < 31 ↔ a < 31 := nI_ltI (b := 31) h (by decide)
theorem tw_l31d {a : Nat} (h : a < 2 ^ 31) : 31 < nI a ↔ 31 < a := nI_ltI (a := 31) (by decide) h
theorem tw_l31e {a : Nat} (h : a < 2 ^ 31) : nI a = 31 ↔ a = 31 := nI_eq (b := 31) h (by decide)
theorem tw_l32a {a : Nat} (h : a < 2 ^ 31) : nI a ≤ 32 ↔ a ≤ 32 := nI_leI (b := 32) h (by decide)
theorem tw_l32b {a : Nat} (h : a < 2 ^ 31) : 32 ≤ nI a ↔ 32 ≤ a := nI_leI (a := 32) (by decide) h
theorem tw_l32c {a : Nat} (h : a < 2 ^ 31) : nI a < 32 ↔ a < 32 := nI_ltI (b := 32) h (by decide)
theorem tw_l32d {a : Nat} (h : a < 2 ^ 31) : 32 < nI a ↔ 32 < a := nI_ltI (a := 32) (by decide) h
theorem tw_l32e {a : Nat} (h : a < 2 ^ 31) : nI a = 32 ↔ a = 32 := nI_eq (b := 32) h (by decide)
theorem tw_l63a {a : Nat} (h : a < 2 ^ 31) : nI a ≤ 63 ↔ a ≤ 63 := nI_leI (b := 63) h (by decide)
theorem tw_l63b {a : Nat} (h : a < 2 ^ 31) : 63 ≤ nI a ↔ 63 ≤ a := nI_leI (a := 63) (by decide) h
theorem tw_l63c {a : Nat} (h : a < 2 ^ 31) : nI a < 63 ↔ a < 63 := nI_ltI (b := 63) h (by decide)
theorem tw_l63d {a : Nat} (h : a < 2 ^ 31) : 63 < nI a ↔ 63 < a := nI_ltI (a := 63) (by decide) h
theorem tw_l63e {a : Nat} (h : a < 2 ^ 31) : nI a = 63 ↔ a = 63 := nI_eq (b := 63) h (by decide)
theorem tw_l64a {a : Nat} (h : a < 2 ^ 31) : nI a ≤ 64 ↔ a ≤ 64 := nI_leI (b := 64) h (by decide)
theorem tw_l64b {a : Nat} (h : a < 2 ^ 31) : 64 ≤ nI a ↔ 64 ≤ a := nI_leI (a := 64) (by decide) h
theorem tw_l64c {a : Nat} (h : a < 2 ^ 31) : nI a < 64 ↔ a < 64 := nI_ltI (b := 64) h (by decide)
theorem tw_l64d {a : Nat} (h : a < 2 ^ 31) : 64 < nI a ↔ 64 < a := nI_ltI (a := 64) (by decide) h
theorem tw_l64e {a : Nat} (h : a < 2 ^ 31) : nI a = 64 ↔ a = 64 := nI_eq (b := 64) h (by decide)
theorem tw_32 (t : Nat) : (32 : Int32) * nI t = nI (32 * t) := pk_mul 32 t
theorem tw_32r (t : Nat) : nI t * 32 = nI (32 * t) := (pk_mul t 32).trans (congrArg nI (Nat.mul_comm t 32))
theorem tw_p {a : Nat} (h : 0 < a) : nI a - 1 = nI (a - 1) := pk_sub (b := 1) h
theorem tw_s1 (l k : Nat) : l + (k + 1) - 1 = l + k := rfl
theorem tw_65 : ((65 : Int32) = 0) = False := eq_false (by decide)
theorem tw_10 : ¬ (1 : Int32) = 0 := by decide
theorem tw_m1 {t : Nat} (h : t < 3) : ¬ (-1 : Int32) = nI t := by
  intro e
  have e2 := congrArg Int32.toInt e
  rw [nI_toInt (by omega), show (-1 : Int32).toInt = -1 from by decide] at e2
  omega
theorem tw_q65 {a b : Nat} (h : a < b) (hb : b ≤ 64) : nI (65 * a + b) / 65 = nI a := by
  have e := pk_div (a := 65 * a + b) (d := 65) (by omega) (by omega) (by omega)
  rw [show (65 * a + b) / 65 = a by omega] at e
  exact e
theorem tw_r65 (a b : Nat) : nI (65 * a + b) - nI a * 65 = nI b := by
  have e := pk_mul a 65
  have e2 : nI (65 * a + b) - nI (a * 65) = nI (65 * a + b - a * 65) := pk_sub (by omega)
  rw [show 65 * a + b - a * 65 = b by omega, ← e] at e2
  exact e2
/-- a truth value as an int -/
def tw_b (x : Bool) : Int32 := if x = true then 1 else 0
theorem tw_bt : tw_b true = 1 := rfl
theorem tw_bf : tw_b false = 0 := rfl
theorem tw_nb (x : Bool) : vp_nar .boolean (tw_b x) = tw_b x := by cases x <;> rfl
theorem tw_up {x : Nat → Int32} {f : Nat → Nat} {n q v : Nat} (h : ∀ k, k < n → k ≠ q → x k = nI (f k)) : ∀ k, k < n → upd x q (nI v) k = nI (tk_st f q v k) := by
  intro k hk
  by_cases z : k = q
  · subst z
    rw [pk_us, tk_st_at]
  · rw [pk_un z, tk_st_ne z]
    exact h k hk z
/-! what is refused, and what is not -/
theorem tw_trk (x : Int32) : (∃ t : Nat, t < 3 ∧ x = nI t) ∨ (x < 0 ∨ nI 3 ≤ x) := by
  rcases pk_ix x (n := 3) (by decide) with h | h | h
  · exact Or.inr (Or.inl h)
  · exact Or.inr (Or.inr h)
  · exact Or.inl h
def tw_str (x : Int32) : Prop := ∃ a b : Nat, a < b ∧ b ≤ 64 ∧ x = nI (65 * a + b)
theorem tw_xT {post : Int32 → Prop} {t : Nat} (ht : t < 3) (h : post 1) : wpX_isTrack post (nI t) := by
  unfold wpX_isTrack
  exact br_f (nI_pos (by omega)) (br_f (nI_nlt (b := t) (a := 2) (by omega) (by decide)) h)
theorem tw_xF {post : Int32 → Prop} {x : Int32} (hx : x < 0 ∨ nI 3 ≤ x) (h : post 0) : wpX_isTrack post x := by
  unfold wpX_isTrack
  by_cases z : x < 0
  · exact br_t z h
  · refine br_f z (br_t ?_ h)
    rcases hx with y | y
    · exact absurd y z
    · exact Int32.lt_of_lt_of_le (show (2 : Int32) < nI 3 by decide) y
theorem tw_yT {post : Int32 → Prop} {v : SY} {t : Nat} (ht : t < 3) (h : post 0) : wpY_badTrack post v (nI t) := by
  unfold wpY_badTrack
  exact br_f (nI_pos (by omega)) (br_t (nI_le (b := 2) (a := t) (by omega) (by decide)) h)
theorem tw_yF {post : Int32 → Prop} {v : SY} {x : Int32} (hx : x < 0 ∨ nI 3 ≤ x) (h : post 1) : wpY_badTrack post v x := by
  unfold wpY_badTrack
  by_cases z : x < 0
  · exact br_t z h
  · refine br_f z (br_f ?_ h)
    rcases hx with y | y
    · exact absurd y z
    · intro w
      have q : nI 3 ≤ 2 := Int32.le_trans y w
      exact absurd q (by decide)
theorem tw_no65 : ¬ (65 : Int32) = 0 := by decide
theorem tw_xsT {post : Int32 → Prop} {a b : Nat} (hab : a < b) (hb : b ≤ 64) (h : post 1) : wpX_isStretch post (nI (65 * a + b)) := by
  unfold wpX_isStretch
  rw [tw_q65 hab hb, tw_r65]
  exact br_f (nI_pos (by omega)) ⟨tw_no65, tw_no65, br_f (nI_ge hab (by omega)) h⟩
theorem tw_dm {x : Nat} (hx : x < 2 ^ 31) : nI x / 65 = nI (x / 65) ∧ nI x - nI (x / 65) * 65 = nI (x % 65) := by
  have e1 : nI x / 65 = nI (x / 65) := pk_div (d := 65) hx (by decide) (by decide)
  have e2 := pk_rem (d := 65) hx (by decide) (by decide)
  refine ⟨e1, ?_⟩
  rw [← e1]
  exact e2
theorem tw_xsF {post : Int32 → Prop} {x : Int32} (hx : ¬ tw_str x) (h : post 0) : wpX_isStretch post x := by
  unfold wpX_isStretch
  by_cases z : x < 0
  · exact br_t z h
  · obtain ⟨n, hn, rfl⟩ := nI_of z
    rw [(tw_dm hn).1, (tw_dm hn).2]
    refine br_f z ⟨tw_no65, tw_no65, br_t ?_ h⟩
    by_cases y : n % 65 ≤ n / 65
    · exact nI_le y (by omega)
    · exact absurd ⟨n / 65, n % 65, by omega, by omega, congrArg nI (by omega)⟩ hx
theorem tw_ysT {post : Int32 → Prop} {v : SY} {a b : Nat} (hab : a < b) (hb : b ≤ 64) (h : post 0) : wpY_badStretch post v (nI (65 * a + b)) := by
  unfold wpY_badStretch
  rw [tw_q65 hab hb, tw_r65]
  exact br_f (nI_pos (by omega)) ⟨tw_no65, br_f (nI_nlt (b := a) (a := 63) (by omega) (by decide)) ⟨tw_no65, tw_no65, br_t (nI_lt hab (by omega)) h⟩⟩
theorem tw_ysF {post : Int32 → Prop} {v : SY} {x : Int32} (hx : ¬ tw_str x) (h : post 1) : wpY_badStretch post v x := by
  unfold wpY_badStretch
  by_cases z : x < 0
  · exact br_t z h
  · obtain ⟨n, hn, rfl⟩ := nI_of z
    rw [(tw_dm hn).1, (tw_dm hn).2]
    refine br_f z ⟨tw_no65, br_c (fun _ => h) (fun _ => ⟨tw_no65, tw_no65, br_f ?_ h⟩)⟩
    by_cases y : n % 65 ≤ n / 65
    · exact nI_nlt y (by omega)
    · exact absurd ⟨n / 65, n % 65, by omega, by omega, congrArg nI (by omega)⟩ hx
/-! the state's tracks -/
def tk_rx (N : Nat → Nat) (S E : Nat → Nat → Nat) (x y z : Nat → Int32) : Prop := tk_pz N z ∧ tk_pa N S x ∧ tk_pa N E y
theorem tk_ok_N {N : Nat → Nat} {S E : Nat → Nat → Nat} (h : tk_ok N S E) : ∀ j, j < 3 → N j ≤ 32 := fun j hj => (h j hj).1
def tk_iN (N : Nat → Nat) (t : Nat) : Nat → Nat := tk_st N t (N t + 1)
def tk_iS (N : Nat → Nat) (S E : Nat → Nat → Nat) (t a b : Nat) : Nat → Nat → Nat := tk_st S t (tk_in (S t) (tk_ip (S t) (E t) a b (N t)) a)
def tk_iE (N : Nat → Nat) (S E : Nat → Nat → Nat) (t a b : Nat) : Nat → Nat → Nat := tk_st E t (tk_in (E t) (tk_ip (S t) (E t) a b (N t)) b)
theorem tk_ok_in {N : Nat → Nat} {S E : Nat → Nat → Nat} {t a b : Nat} (h : tk_ok N S E) (ht : t < 3) (hn : N t < 32) (hab : a < b) (hb : b ≤ 64) : tk_ok (tk_iN N t) (tk_iS N S E t a b) (tk_iE N S E t a b) :=
  tk_ok_st h (by omega) (tk_so_in (h t ht).2 hab hb)
theorem tk_rx_in {N : Nat → Nat} {S E : Nat → Nat → Nat} {t a b : Nat} {x y z : Nat → Int32} (h : tk_ok N S E) (R : tk_rx N S E x y z) (ht : t < 3) (hn : N t < 32) :
    tk_rx (tk_iN N t) (tk_iS N S E t a b) (tk_iE N S E t a b) (tk_iw x (32 * t) (tk_ip (S t) (E t) a b (N t)) (N t) (nI a)) (tk_iw y (32 * t) (tk_ip (S t) (E t) a b (N t)) (N t) (nI b)) (upd z t (nI (N t + 1))) :=
  ⟨tk_pz_st R.1 rfl, tk_pa_in R.2.1 (tk_ok_N h) ht hn (tk_ip_le _ _ _ _ _), tk_pa_in R.2.2 (tk_ok_N h) ht hn (tk_ip_le _ _ _ _ _)⟩
def tk_dN (N : Nat → Nat) (t : Nat) : Nat → Nat := tk_st N t (N t - 1)
def tk_dS (S : Nat → Nat → Nat) (t q : Nat) : Nat → Nat → Nat := tk_st S t (tk_dr (S t) q)
theorem tk_ok_dr {N : Nat → Nat} {S E : Nat → Nat → Nat} {t q : Nat} (h : tk_ok N S E) (ht : t < 3) (hq : q < N t) : tk_ok (tk_dN N t) (tk_dS S t q) (tk_dS E t q) :=
  tk_ok_st h (by have a := (h t ht).1; omega) (tk_so_dr (h t ht).2 hq)
theorem tk_rx_dr {N : Nat → Nat} {S E : Nat → Nat → Nat} {t q : Nat} {x y z : Nat → Int32} (h : tk_ok N S E) (R : tk_rx N S E x y z) (ht : t < 3) (hq : q < N t) :
    tk_rx (tk_dN N t) (tk_dS S t q) (tk_dS E t q) (tk_dw x (32 * t + q) (32 * t + N t)) (tk_dw y (32 * t + q) (32 * t + N t)) (upd z t (nI (N t - 1))) :=
  ⟨tk_pz_st R.1 rfl, tk_pa_dr R.2.1 (tk_ok_N h) ht hq, tk_pa_dr R.2.2 (tk_ok_N h) ht hq⟩
theorem tk_rx_sw {N : Nat → Nat} {S E : Nat → Nat → Nat} {t r : Nat} {rs re : Nat → Nat} {x y z u v : Nat → Int32} (h : tk_ok N S E) (R : tk_rx N S E x y z) (hr : r ≤ 32) (h1 : ∀ k, k < r → u k = nI (rs k)) (h2 : ∀ k, k < r → v k = nI (re k)) :
    tk_rx (tk_st N t r) (tk_st S t rs) (tk_st E t re) (tk_sw x u (32 * t) 0 r) (tk_sw y v (32 * t) 0 r) (upd z t (nI r)) :=
  ⟨tk_pz_st R.1 rfl, tk_pa_sw R.2.1 (tk_ok_N h) hr h1, tk_pa_sw R.2.2 (tk_ok_N h) hr h2⟩
theorem tk_rx_cw {N : Nat → Nat} {S E : Nat → Nat → Nat} {t u r : Nat} {x y z : Nat → Int32} (h : tk_ok N S E) (R : tk_rx N S E x y z) (hu : u < 3) (hr : N u ≤ r) (hr2 : r ≤ 32) :
    tk_rx (tk_st N t (N u)) (tk_st S t (S u)) (tk_st E t (E u)) (tk_cw x (32 * t) (32 * u) 0 r) (tk_cw y (32 * t) (32 * u) 0 r) (upd z t (nI (N u))) :=
  ⟨tk_pz_st R.1 rfl, tk_pa_cw R.2.1 (tk_ok_N h) hu hr hr2, tk_pa_cw R.2.2 (tk_ok_N h) hu hr hr2⟩
theorem tk_st_st {α : Type} {F : Nat → α} {t : Nat} {a b : α} : tk_st (tk_st F t a) t b = tk_st F t b := by
  funext j
  unfold tk_st
  by_cases z : j = t
  · rw [if_pos z, if_pos z]
  · rw [if_neg z, if_neg z, if_neg z]
/-- a stretch behind all others of the track -/
theorem tk_app {N : Nat → Nat} {S E : Nat → Nat → Nat} {t c a b : Nat} {s e : Nat → Nat} (h : 0 < c → s (c - 1) < a) :
    tk_iN (tk_st N t c) t = tk_st N t (c + 1) ∧ tk_iS (tk_st N t c) (tk_st S t s) (tk_st E t e) t a b = tk_st S t (tk_in s c a) ∧ tk_iE (tk_st N t c) (tk_st S t s) (tk_st E t e) t a b = tk_st E t (tk_in e c b) := by
  unfold tk_iN tk_iS tk_iE
  rw [tk_st_at, tk_st_at, tk_st_at, tk_ip_end h, tk_st_st, tk_st_st, tk_st_st]
  exact ⟨rfl, rfl, rfl⟩
theorem tk_rx_fn {N : Nat → Nat} {S E : Nat → Nat → Nat} {t r c : Nat} {rs re s e : Nat → Nat} {x y z : Nat → Int32} (h : tk_rx (tk_st N t c) (tk_st S t s) (tk_st E t e) x y z) (e1 : c = r) (e2 : ∀ k, k < r → s k = rs k ∧ e k = re k) :
    tk_rx (tk_st N t r) (tk_st S t rs) (tk_st E t re) x y z := by
  subst e1
  refine ⟨h.1, fun j hj i hi => ?_, fun j hj i hi => ?_⟩
  · rw [h.2.1 j hj i hi]
    by_cases w : j = t
    · subst w
      rw [tk_st_at] at hi
      rw [tk_st_at, tk_st_at, (e2 i hi).1]
    · rw [tk_st_ne w, tk_st_ne w]
  · rw [h.2.2 j hj i hi]
    by_cases w : j = t
    · subst w
      rw [tk_st_at] at hi
      rw [tk_st_at, tk_st_at, (e2 i hi).2]
    · rw [tk_st_ne w, tk_st_ne w]
theorem tk_rx_self {N : Nat → Nat} {S E : Nat → Nat → Nat} (t : Nat) : tk_st N t (N t) = N ∧ tk_st S t (S t) = S ∧ tk_st E t (E t) = E := by
  refine ⟨?_, ?_, ?_⟩ <;> (funext j; unfold tk_st; by_cases z : j = t; (· rw [if_pos z, z]); (· rw [if_neg z]))
end
section
/-! insert and drop, both sides -/
theorem xw_ins {post : SX → Prop} {fr fo fh fb : Int32} {xz ho li fi mi hs sk ru rv ou ov sp : Nat → Int32} {t a b n : Nat} {s e : Nat → Nat} (ht : t < 3) (hn : n < 32) (ha : a < 65) (hb : b < 65) (hs1 : ∀ i, i < n → s i < 65 ∧ e i < 65) (hz : xz t = nI n) :
    ∀ k, k ≤ n → ∀ (xs xe : Nat → Int32), (∀ j, j < k → xs (32 * t + j) = nI (s j) ∧ xe (32 * t + j) = nI (e j)) →
    post (fr, fo, fh, -1, tk_iw xs (32 * t) (tk_ip s e a b k) k (nI a), tk_iw xe (32 * t) (tk_ip s e a b k) k (nI b), upd xz t (nI (n + 1)), ho, li, fi, mi, hs, sk, ru, rv, ou, ov, sp) →
    ∀ f, k < f → wX_insert_13 post (nI t) (nI a) (nI b) fr fo fh fb f (nI (32 * t + k)) xs xe xz ho li fi mi hs sk ru rv ou ov sp := by
  intro k
  induction k with
  | zero =>
    intro hk xs xe hx hp f hf
    obtain ⟨f, rfl⟩ : ∃ g, f = g + 1 := ⟨f - 1, by omega⟩
    have g0 : 32 * t + 0 ≤ 32 * t := Nat.le_refl _
    have e1 : upd xs (32 * t + 0) (nI a) = tk_iw xs (32 * t) 0 0 (nI a) := tk_iw_0
    have e2 : upd xe (32 * t + 0) (nI b) = tk_iw xe (32 * t) 0 0 (nI b) := tk_iw_0
    simp (disch := omega) only [wX_insert_13, wX_insert_99, g0, hz, e1, e2, forall_eq, nI_leI, nI_ltI, nI_eq, vp_in_nI, nI_clamp, nI_1, nI_add, tw_32, tw_32r, tw_p, sb_m1, tw_s1, tw_65, Nat.add_sub_cancel, tw_l0a, tw_l0b, tw_l0c, tw_l0d, tw_l0e, tw_l1a, tw_l1b, tw_l1c, tw_l1d, tw_l1e, tw_l2a, tw_l2b, tw_l2c, tw_l2d, tw_l2e, tw_l3a, tw_l3b, tw_l3c, tw_l3d, tw_l3e, tw_l4a, tw_l4b, tw_l4c, tw_l4d, tw_l4e, tw_l7a, tw_l7b, tw_l7c, tw_l7d, tw_l7e, tw_l31a, tw_l31b, tw_l31c, tw_l31d, tw_l31e, tw_l32a, tw_l32b, tw_l32c, tw_l32d, tw_l32e, tw_l63a, tw_l63b, tw_l63c, tw_l63d, tw_l63e, tw_l64a, tw_l64b, tw_l64c, tw_l64d, tw_l64e, true_implies, forall_const, not_true_eq_false, not_false_eq_true, false_implies, and_true, true_and, implies_true, and_self]
    exact hp
  | succ k ih =>
    intro hk xs xe hx hp f hf
    obtain ⟨f, rfl⟩ : ∃ g, f = g + 1 := ⟨f - 1, by omega⟩
    have i1 := (hx k (by omega)).1
    have i2 := (hx k (by omega)).2
    have b1 := hs1 k (by omega)
    have g0 : ¬ 32 * t + (k + 1) ≤ 32 * t := by omega
    by_cases z : a < s k ∨ (s k = a ∧ e k < b)
    · rw [tk_ip_t z] at hp
      have q := tk_ip_le s e a b k
      have e1 : tk_iw (upd xs (32 * t + (k + 1)) (nI (s k))) (32 * t) (tk_ip s e a b k) k (nI a) = tk_iw xs (32 * t) (tk_ip s e a b k) (k + 1) (nI a) := by
        rw [← i1]; exact tk_iw_S q
      have e2 : tk_iw (upd xe (32 * t + (k + 1)) (nI (e k))) (32 * t) (tk_ip s e a b k) k (nI b) = tk_iw xe (32 * t) (tk_ip s e a b k) (k + 1) (nI b) := by
        rw [← i2]; exact tk_iw_S q
      have H := ih (by omega) (upd xs (32 * t + (k + 1)) (nI (s k))) (upd xe (32 * t + (k + 1)) (nI (e k))) (fun j hj => by rw [pk_un (by omega), pk_un (by omega)]; exact hx j (by omega)) (by rw [e1, e2]; exact hp) f (by omega)
      by_cases z1 : a < s k
      · simp (disch := omega) only [wX_insert_13, wX_insert_61, i1, i2, g0, z1, forall_eq, nI_leI, nI_ltI, nI_eq, vp_in_nI, nI_clamp, nI_1, nI_add, tw_32, tw_32r, tw_p, sb_m1, tw_s1, tw_65, Nat.add_sub_cancel, tw_l0a, tw_l0b, tw_l0c, tw_l0d, tw_l0e, tw_l1a, tw_l1b, tw_l1c, tw_l1d, tw_l1e, tw_l2a, tw_l2b, tw_l2c, tw_l2d, tw_l2e, tw_l3a, tw_l3b, tw_l3c, tw_l3d, tw_l3e, tw_l4a, tw_l4b, tw_l4c, tw_l4d, tw_l4e, tw_l7a, tw_l7b, tw_l7c, tw_l7d, tw_l7e, tw_l31a, tw_l31b, tw_l31c, tw_l31d, tw_l31e, tw_l32a, tw_l32b, tw_l32c, tw_l32d, tw_l32e, tw_l63a, tw_l63b, tw_l63c, tw_l63d, tw_l63e, tw_l64a, tw_l64b, tw_l64c, tw_l64d, tw_l64e, true_implies, forall_const, not_true_eq_false, not_false_eq_true, false_implies, and_true, true_and, implies_true, and_self]
        exact H
      · have z2 : s k = a := by omega
        have z3 : ¬ b ≤ e k := by omega
        simp (disch := omega) only [wX_insert_13, wX_insert_61, i1, i2, g0, z1, eq_true z2, z3, forall_eq, nI_leI, nI_ltI, nI_eq, vp_in_nI, nI_clamp, nI_1, nI_add, tw_32, tw_32r, tw_p, sb_m1, tw_s1, tw_65, Nat.add_sub_cancel, tw_l0a, tw_l0b, tw_l0c, tw_l0d, tw_l0e, tw_l1a, tw_l1b, tw_l1c, tw_l1d, tw_l1e, tw_l2a, tw_l2b, tw_l2c, tw_l2d, tw_l2e, tw_l3a, tw_l3b, tw_l3c, tw_l3d, tw_l3e, tw_l4a, tw_l4b, tw_l4c, tw_l4d, tw_l4e, tw_l7a, tw_l7b, tw_l7c, tw_l7d, tw_l7e, tw_l31a, tw_l31b, tw_l31c, tw_l31d, tw_l31e, tw_l32a, tw_l32b, tw_l32c, tw_l32d, tw_l32e, tw_l63a, tw_l63b, tw_l63c, tw_l63d, tw_l63e, tw_l64a, tw_l64b, tw_l64c, tw_l64d, tw_l64e, true_implies, forall_const, not_true_eq_false, not_false_eq_true, false_implies, and_true, true_and, implies_true, and_self]
        exact H
    · rw [tk_ip_f z] at hp
      have e1 : upd xs (32 * t + (k + 1)) (nI a) = tk_iw xs (32 * t) (k + 1) (k + 1) (nI a) := tk_iw_0
      have e2 : upd xe (32 * t + (k + 1)) (nI b) = tk_iw xe (32 * t) (k + 1) (k + 1) (nI b) := tk_iw_0
      have z1 : ¬ a < s k := by omega
      by_cases z2 : s k = a
      · have z3 : b ≤ e k := by omega
        simp (disch := omega) only [wX_insert_13, wX_insert_99, i1, i2, g0, z1, eq_true z2, z3, hz, e1, e2, forall_eq, nI_leI, nI_ltI, nI_eq, vp_in_nI, nI_clamp, nI_1, nI_add, tw_32, tw_32r, tw_p, sb_m1, tw_s1, tw_65, Nat.add_sub_cancel, tw_l0a, tw_l0b, tw_l0c, tw_l0d, tw_l0e, tw_l1a, tw_l1b, tw_l1c, tw_l1d, tw_l1e, tw_l2a, tw_l2b, tw_l2c, tw_l2d, tw_l2e, tw_l3a, tw_l3b, tw_l3c, tw_l3d, tw_l3e, tw_l4a, tw_l4b, tw_l4c, tw_l4d, tw_l4e, tw_l7a, tw_l7b, tw_l7c, tw_l7d, tw_l7e, tw_l31a, tw_l31b, tw_l31c, tw_l31d, tw_l31e, tw_l32a, tw_l32b, tw_l32c, tw_l32d, tw_l32e, tw_l63a, tw_l63b, tw_l63c, tw_l63d, tw_l63e, tw_l64a, tw_l64b, tw_l64c, tw_l64d, tw_l64e, true_implies, forall_const, not_true_eq_false, not_false_eq_true, false_implies, and_true, true_and, implies_true, and_self]
        exact hp
      · simp (disch := omega) only [wX_insert_13, wX_insert_99, i1, i2, g0, z1, z2, hz, e1, e2, forall_eq, nI_leI, nI_ltI, nI_eq, vp_in_nI, nI_clamp, nI_1, nI_add, tw_32, tw_32r, tw_p, sb_m1, tw_s1, tw_65, Nat.add_sub_cancel, tw_l0a, tw_l0b, tw_l0c, tw_l0d, tw_l0e, tw_l1a, tw_l1b, tw_l1c, tw_l1d, tw_l1e, tw_l2a, tw_l2b, tw_l2c, tw_l2d, tw_l2e, tw_l3a, tw_l3b, tw_l3c, tw_l3d, tw_l3e, tw_l4a, tw_l4b, tw_l4c, tw_l4d, tw_l4e, tw_l7a, tw_l7b, tw_l7c, tw_l7d, tw_l7e, tw_l31a, tw_l31b, tw_l31c, tw_l31d, tw_l31e, tw_l32a, tw_l32b, tw_l32c, tw_l32d, tw_l32e, tw_l63a, tw_l63b, tw_l63c, tw_l63d, tw_l63e, tw_l64a, tw_l64b, tw_l64c, tw_l64d, tw_l64e, true_implies, forall_const, not_true_eq_false, not_false_eq_true, false_implies, and_true, true_and, implies_true, and_self]
        exact hp
theorem yw_ins {post : SY → Prop} {yz mk : Nat → Int32} {t a b n : Nat} {s e : Nat → Nat} (ht : t < 3) (hn : n < 32) (ha : a < 65) (hb : b < 65) (hs1 : ∀ i, i < n → s i < 65 ∧ e i < 65) (hz : yz t = nI n) :
    ∀ k, k ≤ n → ∀ (ys ye : Nat → Int32), (∀ j, j < k → ys (32 * t + j) = nI (s j) ∧ ye (32 * t + j) = nI (e j)) →
    post (tk_iw ys (32 * t) (tk_ip s e a b k) k (nI a), tk_iw ye (32 * t) (tk_ip s e a b k) k (nI b), upd yz t (nI (n + 1)), mk) →
    ∀ f, k < f → wY_insert_8 post (nI t) (nI a) (nI b) f (nI k) ys ye yz mk := by
  intro k
  induction k with
  | zero =>
    intro hk ys ye hx hp f hf
    obtain ⟨f, rfl⟩ : ∃ g, f = g + 1 := ⟨f - 1, by omega⟩
    have g0 : 0 ≤ 0 := Nat.le_refl _
    have e1 : upd ys (32 * t + 0) (nI a) = tk_iw ys (32 * t) 0 0 (nI a) := tk_iw_0
    have e2 : upd ye (32 * t + 0) (nI b) = tk_iw ye (32 * t) 0 0 (nI b) := tk_iw_0
    simp (disch := omega) only [wY_insert_8, wY_insert_98, g0, hz, e1, e2, forall_eq, nI_leI, nI_ltI, nI_eq, vp_in_nI, nI_clamp, nI_1, nI_add, tw_32, tw_32r, tw_p, sb_m1, tw_s1, tw_65, Nat.add_sub_cancel, tw_l0a, tw_l0b, tw_l0c, tw_l0d, tw_l0e, tw_l1a, tw_l1b, tw_l1c, tw_l1d, tw_l1e, tw_l2a, tw_l2b, tw_l2c, tw_l2d, tw_l2e, tw_l3a, tw_l3b, tw_l3c, tw_l3d, tw_l3e, tw_l4a, tw_l4b, tw_l4c, tw_l4d, tw_l4e, tw_l7a, tw_l7b, tw_l7c, tw_l7d, tw_l7e, tw_l31a, tw_l31b, tw_l31c, tw_l31d, tw_l31e, tw_l32a, tw_l32b, tw_l32c, tw_l32d, tw_l32e, tw_l63a, tw_l63b, tw_l63c, tw_l63d, tw_l63e, tw_l64a, tw_l64b, tw_l64c, tw_l64d, tw_l64e, true_implies, forall_const, not_true_eq_false, not_false_eq_true, false_implies, and_true, true_and, implies_true, and_self]
    exact hp
  | succ k ih =>
    intro hk ys ye hx hp f hf
    obtain ⟨f, rfl⟩ : ∃ g, f = g + 1 := ⟨f - 1, by omega⟩
    have i1 := (hx k (by omega)).1
    have i2 := (hx k (by omega)).2
    have b1 := hs1 k (by omega)
    have g0 : ¬ k + 1 ≤ 0 := by omega
    by_cases z : a < s k ∨ (s k = a ∧ e k < b)
    · rw [tk_ip_t z] at hp
      have q := tk_ip_le s e a b k
      have e1 : tk_iw (upd ys (32 * t + k + 1) (nI (s k))) (32 * t) (tk_ip s e a b k) k (nI a) = tk_iw ys (32 * t) (tk_ip s e a b k) (k + 1) (nI a) := by
        rw [← i1]; exact tk_iw_S q
      have e2 : tk_iw (upd ye (32 * t + k + 1) (nI (e k))) (32 * t) (tk_ip s e a b k) k (nI b) = tk_iw ye (32 * t) (tk_ip s e a b k) (k + 1) (nI b) := by
        rw [← i2]; exact tk_iw_S q
      have H := ih (by omega) (upd ys (32 * t + k + 1) (nI (s k))) (upd ye (32 * t + k + 1) (nI (e k))) (fun j hj => by rw [pk_un (by omega), pk_un (by omega)]; exact hx j (by omega)) (by rw [e1, e2]; exact hp) f (by omega)
      have z0 : ¬ s k < a := by omega
      by_cases z2 : s k = a
      · have z3 : e k < b := by omega
        simp (disch := omega) only [wY_insert_8, wY_insert_60, i1, i2, g0, z0, eq_true z2, z3, forall_eq, nI_leI, nI_ltI, nI_eq, vp_in_nI, nI_clamp, nI_1, nI_add, tw_32, tw_32r, tw_p, sb_m1, tw_s1, tw_65, Nat.add_sub_cancel, tw_l0a, tw_l0b, tw_l0c, tw_l0d, tw_l0e, tw_l1a, tw_l1b, tw_l1c, tw_l1d, tw_l1e, tw_l2a, tw_l2b, tw_l2c, tw_l2d, tw_l2e, tw_l3a, tw_l3b, tw_l3c, tw_l3d, tw_l3e, tw_l4a, tw_l4b, tw_l4c, tw_l4d, tw_l4e, tw_l7a, tw_l7b, tw_l7c, tw_l7d, tw_l7e, tw_l31a, tw_l31b, tw_l31c, tw_l31d, tw_l31e, tw_l32a, tw_l32b, tw_l32c, tw_l32d, tw_l32e, tw_l63a, tw_l63b, tw_l63c, tw_l63d, tw_l63e, tw_l64a, tw_l64b, tw_l64c, tw_l64d, tw_l64e, true_implies, forall_const, not_true_eq_false, not_false_eq_true, false_implies, and_true, true_and, implies_true, and_self]
        exact H
      · simp (disch := omega) only [wY_insert_8, wY_insert_60, i1, i2, g0, z0, z2, forall_eq, nI_leI, nI_ltI, nI_eq, vp_in_nI, nI_clamp, nI_1, nI_add, tw_32, tw_32r, tw_p, sb_m1, tw_s1, tw_65, Nat.add_sub_cancel, tw_l0a, tw_l0b, tw_l0c, tw_l0d, tw_l0e, tw_l1a, tw_l1b, tw_l1c, tw_l1d, tw_l1e, tw_l2a, tw_l2b, tw_l2c, tw_l2d, tw_l2e, tw_l3a, tw_l3b, tw_l3c, tw_l3d, tw_l3e, tw_l4a, tw_l4b, tw_l4c, tw_l4d, tw_l4e, tw_l7a, tw_l7b, tw_l7c, tw_l7d, tw_l7e, tw_l31a, tw_l31b, tw_l31c, tw_l31d, tw_l31e, tw_l32a, tw_l32b, tw_l32c, tw_l32d, tw_l32e, tw_l63a, tw_l63b, tw_l63c, tw_l63d, tw_l63e, tw_l64a, tw_l64b, tw_l64c, tw_l64d, tw_l64e, true_implies, forall_const, not_true_eq_false, not_false_eq_true, false_implies, and_true, true_and, implies_true, and_self]
        exact H
    · rw [tk_ip_f z] at hp
      have e1 : upd ys (32 * t + (k + 1)) (nI a) = tk_iw ys (32 * t) (k + 1) (k + 1) (nI a) := tk_iw_0
      have e2 : upd ye (32 * t + (k + 1)) (nI b) = tk_iw ye (32 * t) (k + 1) (k + 1) (nI b) := tk_iw_0
      by_cases z1 : s k < a
      · simp (disch := omega) only [wY_insert_8, wY_insert_98, i1, i2, g0, z1, hz, e1, e2, forall_eq, nI_leI, nI_ltI, nI_eq, vp_in_nI, nI_clamp, nI_1, nI_add, tw_32, tw_32r, tw_p, sb_m1, tw_s1, tw_65, Nat.add_sub_cancel, tw_l0a, tw_l0b, tw_l0c, tw_l0d, tw_l0e, tw_l1a, tw_l1b, tw_l1c, tw_l1d, tw_l1e, tw_l2a, tw_l2b, tw_l2c, tw_l2d, tw_l2e, tw_l3a, tw_l3b, tw_l3c, tw_l3d, tw_l3e, tw_l4a, tw_l4b, tw_l4c, tw_l4d, tw_l4e, tw_l7a, tw_l7b, tw_l7c, tw_l7d, tw_l7e, tw_l31a, tw_l31b, tw_l31c, tw_l31d, tw_l31e, tw_l32a, tw_l32b, tw_l32c, tw_l32d, tw_l32e, tw_l63a, tw_l63b, tw_l63c, tw_l63d, tw_l63e, tw_l64a, tw_l64b, tw_l64c, tw_l64d, tw_l64e, true_implies, forall_const, not_true_eq_false, not_false_eq_true, false_implies, and_true, true_and, implies_true, and_self]
        exact hp
      · have z2 : s k = a := by omega
        have z3 : ¬ e k < b := by omega
        simp (disch := omega) only [wY_insert_8, wY_insert_98, i1, i2, g0, z1, eq_true z2, z3, hz, e1, e2, forall_eq, nI_leI, nI_ltI, nI_eq, vp_in_nI, nI_clamp, nI_1, nI_add, tw_32, tw_32r, tw_p, sb_m1, tw_s1, tw_65, Nat.add_sub_cancel, tw_l0a, tw_l0b, tw_l0c, tw_l0d, tw_l0e, tw_l1a, tw_l1b, tw_l1c, tw_l1d, tw_l1e, tw_l2a, tw_l2b, tw_l2c, tw_l2d, tw_l2e, tw_l3a, tw_l3b, tw_l3c, tw_l3d, tw_l3e, tw_l4a, tw_l4b, tw_l4c, tw_l4d, tw_l4e, tw_l7a, tw_l7b, tw_l7c, tw_l7d, tw_l7e, tw_l31a, tw_l31b, tw_l31c, tw_l31d, tw_l31e, tw_l32a, tw_l32b, tw_l32c, tw_l32d, tw_l32e, tw_l63a, tw_l63b, tw_l63c, tw_l63d, tw_l63e, tw_l64a, tw_l64b, tw_l64c, tw_l64d, tw_l64e, true_implies, forall_const, not_true_eq_false, not_false_eq_true, false_implies, and_true, true_and, implies_true, and_self]
        exact hp
theorem tw_pair {N : Nat → Nat} {S E : Nat → Nat → Nat} {x y z : Nat → Int32} {t : Nat} (R : tk_rx N S E x y z) (ht : t < 3) : ∀ j, j < N t → x (32 * t + j) = nI (S t j) ∧ y (32 * t + j) = nI (E t j) :=
  fun j hj => ⟨R.2.1 t ht j hj, R.2.2 t ht j hj⟩
theorem tw_bds {N : Nat → Nat} {S E : Nat → Nat → Nat} {t : Nat} (ok : tk_ok N S E) (ht : t < 3) : ∀ i, i < N t → S t i < 65 ∧ E t i < 65 := by
  intro i hi
  have a := (ok t ht).2.1 i hi
  omega
theorem xw_insert {post : SX → Prop} {fr fo fh fb : Int32} {xs xe xz ho li fi mi hs sk ru rv ou ov sp : Nat → Int32} {N : Nat → Nat} {S E : Nat → Nat → Nat} {t a b : Nat} (ok : tk_ok N S E) (R : tk_rx N S E xs xe xz) (ht : t < 3) (hn : N t < 32) (hab : a < b) (hb : b ≤ 64)
    (hp : ∀ xs' xe' xz' : Nat → Int32, tk_rx (tk_iN N t) (tk_iS N S E t a b) (tk_iE N S E t a b) xs' xe' xz' → post (fr, fo, fh, -1, xs', xe', xz', ho, li, fi, mi, hs, sk, ru, rv, ou, ov, sp)) : wpX_insert post (fr, fo, fh, fb, xs, xe, xz, ho, li, fi, mi, hs, sk, ru, rv, ou, ov, sp) (nI t) (nI a) (nI b) := by
  have hz := R.1 t ht
  have H := xw_ins (post := post) (fr := fr) (fo := fo) (fh := fh) (fb := fb) (ho := ho) (li := li) (fi := fi) (mi := mi) (hs := hs) (sk := sk) (ru := ru) (rv := rv) (ou := ou) (ov := ov) (sp := sp) (a := a) (b := b) ht hn (by omega) (by omega) (tw_bds ok ht) hz (N t) (Nat.le_refl _) xs xe (tw_pair R ht) (hp _ _ _ (tk_rx_in ok R ht hn)) (N t + 1) (by omega)
  simp (disch := omega) only [wpX_insert, hz, forall_eq, nI_leI, nI_ltI, nI_eq, vp_in_nI, nI_clamp, nI_1, nI_add, tw_32, tw_32r, tw_p, sb_m1, tw_s1, tw_65, Nat.add_sub_cancel, tw_l0a, tw_l0b, tw_l0c, tw_l0d, tw_l0e, tw_l1a, tw_l1b, tw_l1c, tw_l1d, tw_l1e, tw_l2a, tw_l2b, tw_l2c, tw_l2d, tw_l2e, tw_l3a, tw_l3b, tw_l3c, tw_l3d, tw_l3e, tw_l4a, tw_l4b, tw_l4c, tw_l4d, tw_l4e, tw_l7a, tw_l7b, tw_l7c, tw_l7d, tw_l7e, tw_l31a, tw_l31b, tw_l31c, tw_l31d, tw_l31e, tw_l32a, tw_l32b, tw_l32c, tw_l32d, tw_l32e, tw_l63a, tw_l63b, tw_l63c, tw_l63d, tw_l63e, tw_l64a, tw_l64b, tw_l64c, tw_l64d, tw_l64e, true_implies, forall_const, not_true_eq_false, not_false_eq_true, false_implies, and_true, true_and, implies_true, and_self]
  exact ⟨_, H⟩
theorem yw_insert {post : SY → Prop} {ys ye yz mk : Nat → Int32} {N : Nat → Nat} {S E : Nat → Nat → Nat} {t a b : Nat} (ok : tk_ok N S E) (R : tk_rx N S E ys ye yz) (ht : t < 3) (hn : N t < 32) (hab : a < b) (hb : b ≤ 64)
    (hp : ∀ ys' ye' yz' : Nat → Int32, tk_rx (tk_iN N t) (tk_iS N S E t a b) (tk_iE N S E t a b) ys' ye' yz' → post (ys', ye', yz', mk)) : wpY_insert post (ys, ye, yz, mk) (nI t) (nI a) (nI b) := by
  have hz := R.1 t ht
  have H := yw_ins (post := post) (mk := mk) (a := a) (b := b) ht hn (by omega) (by omega) (tw_bds ok ht) hz (N t) (Nat.le_refl _) ys ye (tw_pair R ht) (hp _ _ _ (tk_rx_in ok R ht hn)) (N t + 1) (by omega)
  simp (disch := omega) only [wpY_insert, hz, forall_eq, nI_leI, nI_ltI, nI_eq, vp_in_nI, nI_clamp, nI_1, nI_add, tw_32, tw_32r, tw_p, sb_m1, tw_s1, tw_65, Nat.add_sub_cancel, tw_l0a, tw_l0b, tw_l0c, tw_l0d, tw_l0e, tw_l1a, tw_l1b, tw_l1c, tw_l1d, tw_l1e, tw_l2a, tw_l2b, tw_l2c, tw_l2d, tw_l2e, tw_l3a, tw_l3b, tw_l3c, tw_l3d, tw_l3e, tw_l4a, tw_l4b, tw_l4c, tw_l4d, tw_l4e, tw_l7a, tw_l7b, tw_l7c, tw_l7d, tw_l7e, tw_l31a, tw_l31b, tw_l31c, tw_l31d, tw_l31e, tw_l32a, tw_l32b, tw_l32c, tw_l32d, tw_l32e, tw_l63a, tw_l63b, tw_l63c, tw_l63d, tw_l63e, tw_l64a, tw_l64b, tw_l64c, tw_l64d, tw_l64e, true_implies, forall_const, not_true_eq_false, not_false_eq_true, false_implies, and_true, true_and, implies_true, and_self]
  exact ⟨_, H⟩
theorem xw_append {post : SX → Prop} {fr fo fh fb : Int32} {xs xe xz ho li fi mi hs sk ru rv ou ov sp : Nat → Int32} {N : Nat → Nat} {S E : Nat → Nat → Nat} {t a b c : Nat} {s e : Nat → Nat} (ok : tk_ok (tk_st N t c) (tk_st S t s) (tk_st E t e)) (R : tk_rx (tk_st N t c) (tk_st S t s) (tk_st E t e) xs xe xz) (ht : t < 3) (hn : c < 32) (hab : a < b) (hb : b ≤ 64) (hl : 0 < c → s (c - 1) < a)
    (hp : ∀ xs' xe' xz' : Nat → Int32, tk_ok (tk_st N t (c + 1)) (tk_st S t (tk_in s c a)) (tk_st E t (tk_in e c b)) → tk_rx (tk_st N t (c + 1)) (tk_st S t (tk_in s c a)) (tk_st E t (tk_in e c b)) xs' xe' xz' → post (fr, fo, fh, -1, xs', xe', xz', ho, li, fi, mi, hs, sk, ru, rv, ou, ov, sp)) : wpX_insert post (fr, fo, fh, fb, xs, xe, xz, ho, li, fi, mi, hs, sk, ru, rv, ou, ov, sp) (nI t) (nI a) (nI b) := by
  have hc : tk_st N t c t < 32 := by rw [tk_st_at]; exact hn
  obtain ⟨e1, e2, e3⟩ := tk_app (N := N) (S := S) (E := E) (t := t) (b := b) (e := e) hl
  have ok' := tk_ok_in ok ht hc hab hb
  rw [e1, e2, e3] at ok'
  refine xw_insert ok R ht hc hab hb (fun xs' xe' xz' R' => ?_)
  rw [e1, e2, e3] at R'
  exact hp _ _ _ ok' R'
theorem yw_append {post : SY → Prop} {ys ye yz mk : Nat → Int32} {N : Nat → Nat} {S E : Nat → Nat → Nat} {t a b c : Nat} {s e : Nat → Nat} (ok : tk_ok (tk_st N t c) (tk_st S t s) (tk_st E t e)) (R : tk_rx (tk_st N t c) (tk_st S t s) (tk_st E t e) ys ye yz) (ht : t < 3) (hn : c < 32) (hab : a < b) (hb : b ≤ 64) (hl : 0 < c → s (c - 1) < a)
    (hp : ∀ ys' ye' yz' : Nat → Int32, tk_ok (tk_st N t (c + 1)) (tk_st S t (tk_in s c a)) (tk_st E t (tk_in e c b)) → tk_rx (tk_st N t (c + 1)) (tk_st S t (tk_in s c a)) (tk_st E t (tk_in e c b)) ys' ye' yz' → post (ys', ye', yz', mk)) : wpY_insert post (ys, ye, yz, mk) (nI t) (nI a) (nI b) := by
  have hc : tk_st N t c t < 32 := by rw [tk_st_at]; exact hn
  obtain ⟨e1, e2, e3⟩ := tk_app (N := N) (S := S) (E := E) (t := t) (b := b) (e := e) hl
  have ok' := tk_ok_in ok ht hc hab hb
  rw [e1, e2, e3] at ok'
  refine yw_insert ok R ht hc hab hb (fun ys' ye' yz' R' => ?_)
  rw [e1, e2, e3] at R'
  exact hp _ _ _ ok' R'
/-! drop -/
theorem xw_drp {post : SX → Prop} {fr fo fh fb : Int32} {xz ho li fi mi hs sk ru rv ou ov sp : Nat → Int32} {t n : Nat} (ht : t < 3) (hn : n ≤ 32) (h0 : 0 < n) (hz : xz t = nI n) :
    ∀ m k, k + 1 + m = n → ∀ (xs xe : Nat → Int32), post (fr, fo, fh, -1, tk_dw xs (32 * t + k) (32 * t + n), tk_dw xe (32 * t + k) (32 * t + n), upd xz t (nI (n - 1)), ho, li, fi, mi, hs, sk, ru, rv, ou, ov, sp) →
    ∀ f, m < f → wX_drop_9 post (nI t) fr fo fh fb f (nI (32 * t + k + 1)) xs xe xz ho li fi mi hs sk ru rv ou ov sp := by
  intro m
  induction m with
  | zero =>
    intro k hk xs xe hp f hf
    obtain ⟨f, rfl⟩ : ∃ g, f = g + 1 := ⟨f - 1, by omega⟩
    have g0 : 32 * t + n ≤ 32 * t + k + 1 := by omega
    rw [tk_dw_0 (by omega), tk_dw_0 (by omega)] at hp
    simp (disch := omega) only [wX_drop_9, g0, hz, forall_eq, nI_leI, nI_ltI, nI_eq, vp_in_nI, nI_clamp, nI_1, nI_add, tw_32, tw_32r, tw_p, sb_m1, tw_s1, tw_65, Nat.add_sub_cancel, tw_l0a, tw_l0b, tw_l0c, tw_l0d, tw_l0e, tw_l1a, tw_l1b, tw_l1c, tw_l1d, tw_l1e, tw_l2a, tw_l2b, tw_l2c, tw_l2d, tw_l2e, tw_l3a, tw_l3b, tw_l3c, tw_l3d, tw_l3e, tw_l4a, tw_l4b, tw_l4c, tw_l4d, tw_l4e, tw_l7a, tw_l7b, tw_l7c, tw_l7d, tw_l7e, tw_l31a, tw_l31b, tw_l31c, tw_l31d, tw_l31e, tw_l32a, tw_l32b, tw_l32c, tw_l32d, tw_l32e, tw_l63a, tw_l63b, tw_l63c, tw_l63d, tw_l63e, tw_l64a, tw_l64b, tw_l64c, tw_l64d, tw_l64e, true_implies, forall_const, not_true_eq_false, not_false_eq_true, false_implies, and_true, true_and, implies_true, and_self]
    exact hp
  | succ m ih =>
    intro k hk xs xe hp f hf
    obtain ⟨f, rfl⟩ : ∃ g, f = g + 1 := ⟨f - 1, by omega⟩
    have g0 : ¬ 32 * t + n ≤ 32 * t + k + 1 := by omega
    have H := ih (k + 1) (by omega) (upd xs (32 * t + k) (xs (32 * t + k + 1))) (upd xe (32 * t + k) (xe (32 * t + k + 1))) (by
      have e1 : tk_dw (upd xs (32 * t + k) (xs (32 * t + k + 1))) (32 * t + (k + 1)) (32 * t + n) = tk_dw xs (32 * t + k) (32 * t + n) := tk_dw_S (by omega)
      have e2 : tk_dw (upd xe (32 * t + k) (xe (32 * t + k + 1))) (32 * t + (k + 1)) (32 * t + n) = tk_dw xe (32 * t + k) (32 * t + n) := tk_dw_S (by omega)
      rw [e1, e2]; exact hp) f (by omega)
    simp (disch := omega) only [wX_drop_9, g0, hz, forall_eq, nI_leI, nI_ltI, nI_eq, vp_in_nI, nI_clamp, nI_1, nI_add, tw_32, tw_32r, tw_p, sb_m1, tw_s1, tw_65, Nat.add_sub_cancel, tw_l0a, tw_l0b, tw_l0c, tw_l0d, tw_l0e, tw_l1a, tw_l1b, tw_l1c, tw_l1d, tw_l1e, tw_l2a, tw_l2b, tw_l2c, tw_l2d, tw_l2e, tw_l3a, tw_l3b, tw_l3c, tw_l3d, tw_l3e, tw_l4a, tw_l4b, tw_l4c, tw_l4d, tw_l4e, tw_l7a, tw_l7b, tw_l7c, tw_l7d, tw_l7e, tw_l31a, tw_l31b, tw_l31c, tw_l31d, tw_l31e, tw_l32a, tw_l32b, tw_l32c, tw_l32d, tw_l32e, tw_l63a, tw_l63b, tw_l63c, tw_l63d, tw_l63e, tw_l64a, tw_l64b, tw_l64c, tw_l64d, tw_l64e, true_implies, forall_const, not_true_eq_false, not_false_eq_true, false_implies, and_true, true_and, implies_true, and_self]
    exact H
theorem yw_drp {post : SY → Prop} {yz mk : Nat → Int32} {t n : Nat} (ht : t < 3) (hn : n ≤ 32) (h0 : 0 < n) (hz : yz t = nI n) :
    ∀ m k, k + 1 + m = n → ∀ (ys ye : Nat → Int32), post (tk_dw ys (32 * t + k) (32 * t + n), tk_dw ye (32 * t + k) (32 * t + n), upd yz t (nI (n - 1)), mk) →
    ∀ f, m < f → wY_drop_2 post (nI t) f (nI k) ys ye yz mk := by
  intro m
  induction m with
  | zero =>
    intro k hk ys ye hp f hf
    obtain ⟨f, rfl⟩ : ∃ g, f = g + 1 := ⟨f - 1, by omega⟩
    have g0 : n ≤ k + 1 := by omega
    rw [tk_dw_0 (by omega), tk_dw_0 (by omega)] at hp
    simp (disch := omega) only [wY_drop_2, g0, hz, forall_eq, nI_leI, nI_ltI, nI_eq, vp_in_nI, nI_clamp, nI_1, nI_add, tw_32, tw_32r, tw_p, sb_m1, tw_s1, tw_65, Nat.add_sub_cancel, tw_l0a, tw_l0b, tw_l0c, tw_l0d, tw_l0e, tw_l1a, tw_l1b, tw_l1c, tw_l1d, tw_l1e, tw_l2a, tw_l2b, tw_l2c, tw_l2d, tw_l2e, tw_l3a, tw_l3b, tw_l3c, tw_l3d, tw_l3e, tw_l4a, tw_l4b, tw_l4c, tw_l4d, tw_l4e, tw_l7a, tw_l7b, tw_l7c, tw_l7d, tw_l7e, tw_l31a, tw_l31b, tw_l31c, tw_l31d, tw_l31e, tw_l32a, tw_l32b, tw_l32c, tw_l32d, tw_l32e, tw_l63a, tw_l63b, tw_l63c, tw_l63d, tw_l63e, tw_l64a, tw_l64b, tw_l64c, tw_l64d, tw_l64e, true_implies, forall_const, not_true_eq_false, not_false_eq_true, false_implies, and_true, true_and, implies_true, and_self]
    exact hp
  | succ m ih =>
    intro k hk ys ye hp f hf
    obtain ⟨f, rfl⟩ : ∃ g, f = g + 1 := ⟨f - 1, by omega⟩
    have g0 : ¬ n ≤ k + 1 := by omega
    have H := ih (k + 1) (by omega) (upd ys (32 * t + k) (ys (32 * t + k + 1))) (upd ye (32 * t + k) (ye (32 * t + k + 1))) (by
      have e1 : tk_dw (upd ys (32 * t + k) (ys (32 * t + k + 1))) (32 * t + (k + 1)) (32 * t + n) = tk_dw ys (32 * t + k) (32 * t + n) := tk_dw_S (by omega)
      have e2 : tk_dw (upd ye (32 * t + k) (ye (32 * t + k + 1))) (32 * t + (k + 1)) (32 * t + n) = tk_dw ye (32 * t + k) (32 * t + n) := tk_dw_S (by omega)
      rw [e1, e2]; exact hp) f (by omega)
    simp (disch := omega) only [wY_drop_2, g0, hz, forall_eq, nI_leI, nI_ltI, nI_eq, vp_in_nI, nI_clamp, nI_1, nI_add, tw_32, tw_32r, tw_p, sb_m1, tw_s1, tw_65, Nat.add_sub_cancel, tw_l0a, tw_l0b, tw_l0c, tw_l0d, tw_l0e, tw_l1a, tw_l1b, tw_l1c, tw_l1d, tw_l1e, tw_l2a, tw_l2b, tw_l2c, tw_l2d, tw_l2e, tw_l3a, tw_l3b, tw_l3c, tw_l3d, tw_l3e, tw_l4a, tw_l4b, tw_l4c, tw_l4d, tw_l4e, tw_l7a, tw_l7b, tw_l7c, tw_l7d, tw_l7e, tw_l31a, tw_l31b, tw_l31c, tw_l31d, tw_l31e, tw_l32a, tw_l32b, tw_l32c, tw_l32d, tw_l32e, tw_l63a, tw_l63b, tw_l63c, tw_l63d, tw_l63e, tw_l64a, tw_l64b, tw_l64c, tw_l64d, tw_l64e, true_implies, forall_const, not_true_eq_false, not_false_eq_true, false_implies, and_true, true_and, implies_true, and_self]
    exact H
theorem xw_drop {post : SX → Prop} {fr fo fh fb : Int32} {xs xe xz ho li fi mi hs sk ru rv ou ov sp : Nat → Int32} {N : Nat → Nat} {S E : Nat → Nat → Nat} {t q : Nat} (ok : tk_ok N S E) (R : tk_rx N S E xs xe xz) (ht : t < 3) (hq : q < N t)
    (hp : ∀ xs' xe' xz' : Nat → Int32, tk_rx (tk_dN N t) (tk_dS S t q) (tk_dS E t q) xs' xe' xz' → post (fr, fo, fh, -1, xs', xe', xz', ho, li, fi, mi, hs, sk, ru, rv, ou, ov, sp)) : wpX_drop post (fr, fo, fh, fb, xs, xe, xz, ho, li, fi, mi, hs, sk, ru, rv, ou, ov, sp) (nI t) (nI q) := by
  have hz := R.1 t ht
  have hn := (ok t ht).1
  have H := xw_drp (post := post) (fr := fr) (fo := fo) (fh := fh) (fb := fb) (ho := ho) (li := li) (fi := fi) (mi := mi) (hs := hs) (sk := sk) (ru := ru) (rv := rv) (ou := ou) (ov := ov) (sp := sp) ht hn (by omega) hz (N t - (q + 1)) q (by omega) xs xe (hp _ _ _ (tk_rx_dr ok R ht hq)) (N t + 1) (by omega)
  simp (disch := omega) only [wpX_drop, hz, forall_eq, nI_leI, nI_ltI, nI_eq, vp_in_nI, nI_clamp, nI_1, nI_add, tw_32, tw_32r, tw_p, sb_m1, tw_s1, tw_65, Nat.add_sub_cancel, tw_l0a, tw_l0b, tw_l0c, tw_l0d, tw_l0e, tw_l1a, tw_l1b, tw_l1c, tw_l1d, tw_l1e, tw_l2a, tw_l2b, tw_l2c, tw_l2d, tw_l2e, tw_l3a, tw_l3b, tw_l3c, tw_l3d, tw_l3e, tw_l4a, tw_l4b, tw_l4c, tw_l4d, tw_l4e, tw_l7a, tw_l7b, tw_l7c, tw_l7d, tw_l7e, tw_l31a, tw_l31b, tw_l31c, tw_l31d, tw_l31e, tw_l32a, tw_l32b, tw_l32c, tw_l32d, tw_l32e, tw_l63a, tw_l63b, tw_l63c, tw_l63d, tw_l63e, tw_l64a, tw_l64b, tw_l64c, tw_l64d, tw_l64e, true_implies, forall_const, not_true_eq_false, not_false_eq_true, false_implies, and_true, true_and, implies_true, and_self]
  exact ⟨_, H⟩
theorem yw_drop {post : SY → Prop} {ys ye yz mk : Nat → Int32} {N : Nat → Nat} {S E : Nat → Nat → Nat} {t q : Nat} (ok : tk_ok N S E) (R : tk_rx N S E ys ye yz) (ht : t < 3) (hq : q < N t)
    (hp : ∀ ys' ye' yz' : Nat → Int32, tk_rx (tk_dN N t) (tk_dS S t q) (tk_dS E t q) ys' ye' yz' → post (ys', ye', yz', mk)) : wpY_drop post (ys, ye, yz, mk) (nI t) (nI q) := by
  have hz := R.1 t ht
  have hn := (ok t ht).1
  have H := yw_drp (post := post) (mk := mk) ht hn (by omega) hz (N t - (q + 1)) q (by omega) ys ye (hp _ _ _ (tk_rx_dr ok R ht hq)) (N t + 1) (by omega)
  unfold wpY_drop
  exact ⟨_, H⟩
end
section
/-! X's runs -/
theorem xw_tk {post : SX → Prop} {fo fh fb : Int32} {xs xe xz ho li fi mi hs sk ou ov sp : Nat → Int32} {t n : Nat} {s e : Nat → Nat} (ht : t < 3) (hn : n ≤ 32) (hso : tk_so n s e) (hz : xz t = nI n) (hx : ∀ j, j < n → xs (32 * t + j) = nI (s j) ∧ xe (32 * t + j) = nI (e j))
    (hp : ∀ (r : Nat) (rs re : Nat → Nat) (ru rv : Nat → Int32), tk_nf r rs re (tk_cv n s e) 65 → (∀ k, k < r → ru k = nI (rs k)) → (∀ k, k < r → rv k = nI (re k)) → post (nI r, fo, fh, fb, xs, xe, xz, ho, li, fi, mi, hs, sk, ru, rv, ou, ov, sp)) :
    ∀ m i, i + m = n → ∀ (r : Nat) (rs re : Nat → Nat) (ru rv : Nat → Int32), tk_nf r rs re (tk_cv i s e) 65 → r ≤ i → (∀ j, i ≤ j → j < n → ∀ k, k < r → rs k ≤ s j) → (∀ k, k < r → ru k = nI (rs k)) → (∀ k, k < r → rv k = nI (re k)) →
    ∀ f, m < f → wX_takeRuns_10 post (nI t) fo fh fb f (nI (32 * t + i)) (nI r) xs xe xz ho li fi mi hs sk ru rv ou ov sp := by
  intro m
  induction m with
  | zero =>
    intro i hi r rs re ru rv nf hr hl h1 h2 f hf
    obtain ⟨f, rfl⟩ : ∃ g, f = g + 1 := ⟨f - 1, by omega⟩
    have e0 : i = n := by omega
    subst e0
    have g0 : 32 * t + i ≤ 32 * t + i := Nat.le_refl _
    simp (disch := omega) only [wX_takeRuns_10, g0, hz, forall_eq, nI_leI, nI_ltI, nI_eq, vp_in_nI, nI_clamp, nI_1, nI_add, tw_32, tw_32r, tw_p, sb_m1, tw_s1, tw_65, Nat.add_sub_cancel, tw_l0a, tw_l0b, tw_l0c, tw_l0d, tw_l0e, tw_l1a, tw_l1b, tw_l1c, tw_l1d, tw_l1e, tw_l2a, tw_l2b, tw_l2c, tw_l2d, tw_l2e, tw_l3a, tw_l3b, tw_l3c, tw_l3d, tw_l3e, tw_l4a, tw_l4b, tw_l4c, tw_l4d, tw_l4e, tw_l7a, tw_l7b, tw_l7c, tw_l7d, tw_l7e, tw_l31a, tw_l31b, tw_l31c, tw_l31d, tw_l31e, tw_l32a, tw_l32b, tw_l32c, tw_l32d, tw_l32e, tw_l63a, tw_l63b, tw_l63c, tw_l63d, tw_l63e, tw_l64a, tw_l64b, tw_l64c, tw_l64d, tw_l64e, true_implies, forall_const, not_true_eq_false, not_false_eq_true, false_implies, and_true, true_and, implies_true, and_self]
    exact hp r rs re ru rv nf h1 h2
  | succ m ih =>
    intro i hi r rs re ru rv nf hr hl h1 h2 f hf
    obtain ⟨f, rfl⟩ : ∃ g, f = g + 1 := ⟨f - 1, by omega⟩
    have g0 : ¬ 32 * t + n ≤ 32 * t + i := by omega
    have i1 := (hx i (by omega)).1
    have i2 := (hx i (by omega)).2
    have b0 := hso.1 i (by omega)
    have srt : ∀ j, i + 1 ≤ j → j < n → s i ≤ s j := fun j hj hj2 => tk_so_le hso (by omega) hj2
    by_cases z : 0 < r ∧ s i ≤ re (r - 1)
    · have j2 := h2 (r - 1) (by omega)
      have b1 := nf.1 (r - 1) (by omega)
      have z0 : ¬ r ≤ 0 := by omega
      have z1 : ¬ re (r - 1) < s i := by omega
      by_cases z2 : e i ≤ re (r - 1)
      · have H := ih (i + 1) (by omega) r rs (tk_st re (r - 1) (re (r - 1))) ru (upd rv (r - 1) (nI (re (r - 1))))
          (tk_tr_m (v := re (r - 1)) nf z.1 (hl i (Nat.le_refl _) (by omega) (r - 1) (by omega)) z.2 b0.1 b0.2 (fun k _ hk => tk_st_ne hk) tk_st_at (Or.inl ⟨rfl, z2⟩)) (by omega)
          (fun j hj hj2 k hk => hl j (by omega) hj2 k hk) h1 (tw_up (fun k hk _ => h2 k hk)) f (by omega)
        simp (disch := omega) only [wX_takeRuns_10, g0, hz, i1, i2, z0, j2, z1, z2, forall_eq, nI_leI, nI_ltI, nI_eq, vp_in_nI, nI_clamp, nI_1, nI_add, tw_32, tw_32r, tw_p, sb_m1, tw_s1, tw_65, Nat.add_sub_cancel, tw_l0a, tw_l0b, tw_l0c, tw_l0d, tw_l0e, tw_l1a, tw_l1b, tw_l1c, tw_l1d, tw_l1e, tw_l2a, tw_l2b, tw_l2c, tw_l2d, tw_l2e, tw_l3a, tw_l3b, tw_l3c, tw_l3d, tw_l3e, tw_l4a, tw_l4b, tw_l4c, tw_l4d, tw_l4e, tw_l7a, tw_l7b, tw_l7c, tw_l7d, tw_l7e, tw_l31a, tw_l31b, tw_l31c, tw_l31d, tw_l31e, tw_l32a, tw_l32b, tw_l32c, tw_l32d, tw_l32e, tw_l63a, tw_l63b, tw_l63c, tw_l63d, tw_l63e, tw_l64a, tw_l64b, tw_l64c, tw_l64d, tw_l64e, true_implies, forall_const, not_true_eq_false, not_false_eq_true, false_implies, and_true, true_and, implies_true, and_self]
        exact H
      · have H := ih (i + 1) (by omega) r rs (tk_st re (r - 1) (e i)) ru (upd rv (r - 1) (nI (e i)))
          (tk_tr_m (v := e i) nf z.1 (hl i (Nat.le_refl _) (by omega) (r - 1) (by omega)) z.2 b0.1 b0.2 (fun k _ hk => tk_st_ne hk) tk_st_at (Or.inr ⟨rfl, by omega⟩)) (by omega)
          (fun j hj hj2 k hk => hl j (by omega) hj2 k hk) h1 (tw_up (fun k hk _ => h2 k hk)) f (by omega)
        simp (disch := omega) only [wX_takeRuns_10, g0, hz, i1, i2, z0, j2, z1, z2, forall_eq, nI_leI, nI_ltI, nI_eq, vp_in_nI, nI_clamp, nI_1, nI_add, tw_32, tw_32r, tw_p, sb_m1, tw_s1, tw_65, Nat.add_sub_cancel, tw_l0a, tw_l0b, tw_l0c, tw_l0d, tw_l0e, tw_l1a, tw_l1b, tw_l1c, tw_l1d, tw_l1e, tw_l2a, tw_l2b, tw_l2c, tw_l2d, tw_l2e, tw_l3a, tw_l3b, tw_l3c, tw_l3d, tw_l3e, tw_l4a, tw_l4b, tw_l4c, tw_l4d, tw_l4e, tw_l7a, tw_l7b, tw_l7c, tw_l7d, tw_l7e, tw_l31a, tw_l31b, tw_l31c, tw_l31d, tw_l31e, tw_l32a, tw_l32b, tw_l32c, tw_l32d, tw_l32e, tw_l63a, tw_l63b, tw_l63c, tw_l63d, tw_l63e, tw_l64a, tw_l64b, tw_l64c, tw_l64d, tw_l64e, true_implies, forall_const, not_true_eq_false, not_false_eq_true, false_implies, and_true, true_and, implies_true, and_self]
        exact H
    · have H := ih (i + 1) (by omega) (r + 1) (tk_st rs r (s i)) (tk_st re r (e i)) (upd ru r (nI (s i))) (upd rv r (nI (e i)))
          (tk_tr_a nf (fun y => by omega) b0.1 b0.2 (fun k hk => ⟨tk_st_ne (by omega), tk_st_ne (by omega)⟩) tk_st_at tk_st_at) (by omega)
          (fun j hj hj2 k hk => by
            by_cases y : k = r
            · subst y; rw [tk_st_at]; exact srt j hj hj2
            · rw [tk_st_ne y]; exact hl j (by omega) hj2 k (by omega))
          (tw_up (fun k hk hne => h1 k (by omega))) (tw_up (fun k hk hne => h2 k (by omega))) f (by omega)
      by_cases z0 : r ≤ 0
      · simp (disch := omega) only [wX_takeRuns_10, wX_takeRuns_106, g0, hz, i1, i2, z0, forall_eq, nI_leI, nI_ltI, nI_eq, vp_in_nI, nI_clamp, nI_1, nI_add, tw_32, tw_32r, tw_p, sb_m1, tw_s1, tw_65, Nat.add_sub_cancel, tw_l0a, tw_l0b, tw_l0c, tw_l0d, tw_l0e, tw_l1a, tw_l1b, tw_l1c, tw_l1d, tw_l1e, tw_l2a, tw_l2b, tw_l2c, tw_l2d, tw_l2e, tw_l3a, tw_l3b, tw_l3c, tw_l3d, tw_l3e, tw_l4a, tw_l4b, tw_l4c, tw_l4d, tw_l4e, tw_l7a, tw_l7b, tw_l7c, tw_l7d, tw_l7e, tw_l31a, tw_l31b, tw_l31c, tw_l31d, tw_l31e, tw_l32a, tw_l32b, tw_l32c, tw_l32d, tw_l32e, tw_l63a, tw_l63b, tw_l63c, tw_l63d, tw_l63e, tw_l64a, tw_l64b, tw_l64c, tw_l64d, tw_l64e, true_implies, forall_const, not_true_eq_false, not_false_eq_true, false_implies, and_true, true_and, implies_true, and_self]
        exact H
      · have j2 := h2 (r - 1) (by omega)
        have b1 := nf.1 (r - 1) (by omega)
        have z1 : re (r - 1) < s i := by omega
        simp (disch := omega) only [wX_takeRuns_10, wX_takeRuns_106, g0, hz, i1, i2, z0, j2, z1, forall_eq, nI_leI, nI_ltI, nI_eq, vp_in_nI, nI_clamp, nI_1, nI_add, tw_32, tw_32r, tw_p, sb_m1, tw_s1, tw_65, Nat.add_sub_cancel, tw_l0a, tw_l0b, tw_l0c, tw_l0d, tw_l0e, tw_l1a, tw_l1b, tw_l1c, tw_l1d, tw_l1e, tw_l2a, tw_l2b, tw_l2c, tw_l2d, tw_l2e, tw_l3a, tw_l3b, tw_l3c, tw_l3d, tw_l3e, tw_l4a, tw_l4b, tw_l4c, tw_l4d, tw_l4e, tw_l7a, tw_l7b, tw_l7c, tw_l7d, tw_l7e, tw_l31a, tw_l31b, tw_l31c, tw_l31d, tw_l31e, tw_l32a, tw_l32b, tw_l32c, tw_l32d, tw_l32e, tw_l63a, tw_l63b, tw_l63c, tw_l63d, tw_l63e, tw_l64a, tw_l64b, tw_l64c, tw_l64d, tw_l64e, true_implies, forall_const, not_true_eq_false, not_false_eq_true, false_implies, and_true, true_and, implies_true, and_self]
        exact H
theorem xw_take {post : SX → Prop} {fr fo fh fb : Int32} {xs xe xz ho li fi mi hs sk ru rv ou ov sp : Nat → Int32} {N : Nat → Nat} {S E : Nat → Nat → Nat} {t : Nat} (ok : tk_ok N S E) (R : tk_rx N S E xs xe xz) (ht : t < 3)
    (hp : ∀ (r : Nat) (rs re : Nat → Nat) (ru rv : Nat → Int32), tk_nf r rs re (tk_cv (N t) (S t) (E t)) 65 → (∀ k, k < r → ru k = nI (rs k)) → (∀ k, k < r → rv k = nI (re k)) → post (nI r, fo, fh, fb, xs, xe, xz, ho, li, fi, mi, hs, sk, ru, rv, ou, ov, sp)) : wpX_takeRuns post (fr, fo, fh, fb, xs, xe, xz, ho, li, fi, mi, hs, sk, ru, rv, ou, ov, sp) (nI t) := by
  have nf0 : tk_nf 0 (fun _ => 0) (fun _ => 0) (tk_cv 0 (S t) (E t)) 65 := tk_nf_skips tk_nf_0 (by omega) (fun q _ _ z => by
    obtain ⟨i, hi, _⟩ := tk_cv_iff.mp z
    omega)
  have H := xw_tk (fo := fo) (fh := fh) (fb := fb) (ho := ho) (li := li) (fi := fi) (mi := mi) (hs := hs) (sk := sk) (ou := ou) (ov := ov) (sp := sp) ht (ok t ht).1 (ok t ht).2 (R.1 t ht) (tw_pair R ht) hp (N t) 0 (by omega) 0 _ _ ru rv nf0 (Nat.le_refl 0) (fun j _ _ k hk => absurd hk (Nat.not_lt_zero k)) (fun k hk => absurd hk (Nat.not_lt_zero k)) (fun k hk => absurd hk (Nat.not_lt_zero k)) (N t + 1) (by omega)
  simp (disch := omega) only [wpX_takeRuns, forall_eq, nI_leI, nI_ltI, nI_eq, vp_in_nI, nI_clamp, nI_1, nI_add, tw_32, tw_32r, tw_p, sb_m1, tw_s1, tw_65, Nat.add_sub_cancel, tw_l0a, tw_l0b, tw_l0c, tw_l0d, tw_l0e, tw_l1a, tw_l1b, tw_l1c, tw_l1d, tw_l1e, tw_l2a, tw_l2b, tw_l2c, tw_l2d, tw_l2e, tw_l3a, tw_l3b, tw_l3c, tw_l3d, tw_l3e, tw_l4a, tw_l4b, tw_l4c, tw_l4d, tw_l4e, tw_l7a, tw_l7b, tw_l7c, tw_l7d, tw_l7e, tw_l31a, tw_l31b, tw_l31c, tw_l31d, tw_l31e, tw_l32a, tw_l32b, tw_l32c, tw_l32d, tw_l32e, tw_l63a, tw_l63b, tw_l63c, tw_l63d, tw_l63e, tw_l64a, tw_l64b, tw_l64c, tw_l64d, tw_l64e, true_implies, forall_const, not_true_eq_false, not_false_eq_true, false_implies, and_true, true_and, implies_true, and_self]
  exact ⟨_, H⟩
theorem xw_sto {post : SX → Prop} {fr fo fh fb : Int32} {xz ho li fi mi hs sk ru rv ou ov sp : Nat → Int32} {t r : Nat} (ht : t < 3) (hr : r ≤ 32) (hf1 : fr = nI r) :
    ∀ m k, k + m = r → ∀ (xs xe : Nat → Int32), post (fr, fo, fh, -1, tk_sw xs ru (32 * t) k r, tk_sw xe rv (32 * t) k r, xz, ho, li, fi, mi, hs, sk, ru, rv, ou, ov, sp) →
    ∀ f, m < f → wX_storeRuns_12 post (nI t) fr fo fh fb f (nI k) xs xe xz ho li fi mi hs sk ru rv ou ov sp := by
  subst hf1
  intro m
  induction m with
  | zero =>
    intro k hk xs xe hp f hf
    obtain ⟨f, rfl⟩ : ∃ g, f = g + 1 := ⟨f - 1, by omega⟩
    have g0 : r ≤ k := by omega
    rw [tk_sw_0 g0, tk_sw_0 g0] at hp
    simp (disch := omega) only [wX_storeRuns_12, g0, forall_eq, nI_leI, nI_ltI, nI_eq, vp_in_nI, nI_clamp, nI_1, nI_add, tw_32, tw_32r, tw_p, sb_m1, tw_s1, tw_65, Nat.add_sub_cancel, tw_l0a, tw_l0b, tw_l0c, tw_l0d, tw_l0e, tw_l1a, tw_l1b, tw_l1c, tw_l1d, tw_l1e, tw_l2a, tw_l2b, tw_l2c, tw_l2d, tw_l2e, tw_l3a, tw_l3b, tw_l3c, tw_l3d, tw_l3e, tw_l4a, tw_l4b, tw_l4c, tw_l4d, tw_l4e, tw_l7a, tw_l7b, tw_l7c, tw_l7d, tw_l7e, tw_l31a, tw_l31b, tw_l31c, tw_l31d, tw_l31e, tw_l32a, tw_l32b, tw_l32c, tw_l32d, tw_l32e, tw_l63a, tw_l63b, tw_l63c, tw_l63d, tw_l63e, tw_l64a, tw_l64b, tw_l64c, tw_l64d, tw_l64e, true_implies, forall_const, not_true_eq_false, not_false_eq_true, false_implies, and_true, true_and, implies_true, and_self]
    exact hp
  | succ m ih =>
    intro k hk xs xe hp f hf
    obtain ⟨f, rfl⟩ : ∃ g, f = g + 1 := ⟨f - 1, by omega⟩
    have g0 : ¬ r ≤ k := by omega
    have H := ih (k + 1) (by omega) (upd xs (32 * t + k) (ru k)) (upd xe (32 * t + k) (rv k)) (by rw [tk_sw_S (by omega), tk_sw_S (by omega)]; exact hp) f (by omega)
    simp (disch := omega) only [wX_storeRuns_12, g0, forall_eq, nI_leI, nI_ltI, nI_eq, vp_in_nI, nI_clamp, nI_1, nI_add, tw_32, tw_32r, tw_p, sb_m1, tw_s1, tw_65, Nat.add_sub_cancel, tw_l0a, tw_l0b, tw_l0c, tw_l0d, tw_l0e, tw_l1a, tw_l1b, tw_l1c, tw_l1d, tw_l1e, tw_l2a, tw_l2b, tw_l2c, tw_l2d, tw_l2e, tw_l3a, tw_l3b, tw_l3c, tw_l3d, tw_l3e, tw_l4a, tw_l4b, tw_l4c, tw_l4d, tw_l4e, tw_l7a, tw_l7b, tw_l7c, tw_l7d, tw_l7e, tw_l31a, tw_l31b, tw_l31c, tw_l31d, tw_l31e, tw_l32a, tw_l32b, tw_l32c, tw_l32d, tw_l32e, tw_l63a, tw_l63b, tw_l63c, tw_l63d, tw_l63e, tw_l64a, tw_l64b, tw_l64c, tw_l64d, tw_l64e, true_implies, forall_const, not_true_eq_false, not_false_eq_true, false_implies, and_true, true_and, implies_true, and_self]
    exact H
theorem xw_store {post : SX → Prop} {fo fh fb : Int32} {xs xe xz ho li fi mi hs sk ru rv ou ov sp : Nat → Int32} {N : Nat → Nat} {S E : Nat → Nat → Nat} {t r : Nat} {rs re : Nat → Nat} (ok : tk_ok N S E) (R : tk_rx N S E xs xe xz) (ht : t < 3) (hr : r ≤ 32) (h1 : ∀ k, k < r → ru k = nI (rs k)) (h2 : ∀ k, k < r → rv k = nI (re k))
    (hp : ∀ xs' xe' xz' : Nat → Int32, tk_rx (tk_st N t r) (tk_st S t rs) (tk_st E t re) xs' xe' xz' → post (nI r, fo, fh, -1, xs', xe', xz', ho, li, fi, mi, hs, sk, ru, rv, ou, ov, sp)) : wpX_storeRuns post (nI r, fo, fh, fb, xs, xe, xz, ho, li, fi, mi, hs, sk, ru, rv, ou, ov, sp) (nI t) := by
  have H := xw_sto (fo := fo) (fh := fh) (fb := fb) (ho := ho) (li := li) (fi := fi) (mi := mi) (hs := hs) (sk := sk) (ou := ou) (ov := ov) (sp := sp) ht hr rfl r 0 (by omega) xs xe (hp _ _ _ (tk_rx_sw (t := t) ok R hr h1 h2)) (r + 1) (by omega)
  simp (disch := omega) only [wpX_storeRuns, forall_eq, nI_leI, nI_ltI, nI_eq, vp_in_nI, nI_clamp, nI_1, nI_add, tw_32, tw_32r, tw_p, sb_m1, tw_s1, tw_65, Nat.add_sub_cancel, tw_l0a, tw_l0b, tw_l0c, tw_l0d, tw_l0e, tw_l1a, tw_l1b, tw_l1c, tw_l1d, tw_l1e, tw_l2a, tw_l2b, tw_l2c, tw_l2d, tw_l2e, tw_l3a, tw_l3b, tw_l3c, tw_l3d, tw_l3e, tw_l4a, tw_l4b, tw_l4c, tw_l4d, tw_l4e, tw_l7a, tw_l7b, tw_l7c, tw_l7d, tw_l7e, tw_l31a, tw_l31b, tw_l31c, tw_l31d, tw_l31e, tw_l32a, tw_l32b, tw_l32c, tw_l32d, tw_l32e, tw_l63a, tw_l63b, tw_l63c, tw_l63d, tw_l63e, tw_l64a, tw_l64b, tw_l64c, tw_l64d, tw_l64e, true_implies, forall_const, not_true_eq_false, not_false_eq_true, false_implies, and_true, true_and, implies_true, and_self]
  exact ⟨_, H⟩
theorem xw_kee {post : SX → Prop} {fr fo fh fb : Int32} {xs xe xz ho li fi mi hs sk ru rv sp : Nat → Int32} {r : Nat} (hr : r ≤ 32) (hf1 : fr = nI r) :
    ∀ m k, k + m = r → ∀ (ou ov : Nat → Int32), post (fr, fo, fh, fb, xs, xe, xz, ho, li, fi, mi, hs, sk, ru, rv, tk_sw ou ru 0 k r, tk_sw ov rv 0 k r, sp) →
    ∀ f, m < f → wX_keepOthers_10 post fr fo fh fb f (nI k) xs xe xz ho li fi mi hs sk ru rv ou ov sp := by
  subst hf1
  intro m
  induction m with
  | zero =>
    intro k hk ou ov hp f hf
    obtain ⟨f, rfl⟩ : ∃ g, f = g + 1 := ⟨f - 1, by omega⟩
    have g0 : r ≤ k := by omega
    rw [tk_sw_0 g0, tk_sw_0 g0] at hp
    simp (disch := omega) only [wX_keepOthers_10, g0, forall_eq, nI_leI, nI_ltI, nI_eq, vp_in_nI, nI_clamp, nI_1, nI_add, tw_32, tw_32r, tw_p, sb_m1, tw_s1, tw_65, Nat.add_sub_cancel, tw_l0a, tw_l0b, tw_l0c, tw_l0d, tw_l0e, tw_l1a, tw_l1b, tw_l1c, tw_l1d, tw_l1e, tw_l2a, tw_l2b, tw_l2c, tw_l2d, tw_l2e, tw_l3a, tw_l3b, tw_l3c, tw_l3d, tw_l3e, tw_l4a, tw_l4b, tw_l4c, tw_l4d, tw_l4e, tw_l7a, tw_l7b, tw_l7c, tw_l7d, tw_l7e, tw_l31a, tw_l31b, tw_l31c, tw_l31d, tw_l31e, tw_l32a, tw_l32b, tw_l32c, tw_l32d, tw_l32e, tw_l63a, tw_l63b, tw_l63c, tw_l63d, tw_l63e, tw_l64a, tw_l64b, tw_l64c, tw_l64d, tw_l64e, true_implies, forall_const, not_true_eq_false, not_false_eq_true, false_implies, and_true, true_and, implies_true, and_self]
    exact hp
  | succ m ih =>
    intro k hk ou ov hp f hf
    obtain ⟨f, rfl⟩ : ∃ g, f = g + 1 := ⟨f - 1, by omega⟩
    have g0 : ¬ r ≤ k := by omega
    have H := ih (k + 1) (by omega) (upd ou k (ru k)) (upd ov k (rv k)) (by
      have e1 : tk_sw (upd ou k (ru k)) ru 0 (k + 1) r = tk_sw ou ru 0 k r := by
        have e := tk_sw_S (x := ou) (y := ru) (l := 0) (k := k) (r := r) (by omega)
        rw [Nat.zero_add] at e; exact e
      have e2 : tk_sw (upd ov k (rv k)) rv 0 (k + 1) r = tk_sw ov rv 0 k r := by
        have e := tk_sw_S (x := ov) (y := rv) (l := 0) (k := k) (r := r) (by omega)
        rw [Nat.zero_add] at e; exact e
      rw [e1, e2]; exact hp) f (by omega)
    simp (disch := omega) only [wX_keepOthers_10, g0, forall_eq, nI_leI, nI_ltI, nI_eq, vp_in_nI, nI_clamp, nI_1, nI_add, tw_32, tw_32r, tw_p, sb_m1, tw_s1, tw_65, Nat.add_sub_cancel, tw_l0a, tw_l0b, tw_l0c, tw_l0d, tw_l0e, tw_l1a, tw_l1b, tw_l1c, tw_l1d, tw_l1e, tw_l2a, tw_l2b, tw_l2c, tw_l2d, tw_l2e, tw_l3a, tw_l3b, tw_l3c, tw_l3d, tw_l3e, tw_l4a, tw_l4b, tw_l4c, tw_l4d, tw_l4e, tw_l7a, tw_l7b, tw_l7c, tw_l7d, tw_l7e, tw_l31a, tw_l31b, tw_l31c, tw_l31d, tw_l31e, tw_l32a, tw_l32b, tw_l32c, tw_l32d, tw_l32e, tw_l63a, tw_l63b, tw_l63c, tw_l63d, tw_l63e, tw_l64a, tw_l64b, tw_l64c, tw_l64d, tw_l64e, true_implies, forall_const, not_true_eq_false, not_false_eq_true, false_implies, and_true, true_and, implies_true, and_self]
    exact H
theorem tk_sw_at {x y : Nat → Int32} {r k : Nat} (h : k < r) : tk_sw x y 0 0 r k = y k := by
  unfold tk_sw
  rw [if_pos (by omega), Nat.sub_zero]
theorem xw_keep {post : SX → Prop} {fo fh fb : Int32} {xs xe xz ho li fi mi hs sk ru rv ou ov sp : Nat → Int32} {r : Nat} (hr : r ≤ 32)
    (hp : ∀ ou' ov' : Nat → Int32, (∀ k, k < r → ou' k = ru k) → (∀ k, k < r → ov' k = rv k) → post (nI r, nI r, fh, fb, xs, xe, xz, ho, li, fi, mi, hs, sk, ru, rv, ou', ov', sp)) : wpX_keepOthers post (nI r, fo, fh, fb, xs, xe, xz, ho, li, fi, mi, hs, sk, ru, rv, ou, ov, sp) := by
  have H := xw_kee (fo := nI r) (fh := fh) (fb := fb) (xs := xs) (xe := xe) (xz := xz) (ho := ho) (li := li) (fi := fi) (mi := mi) (hs := hs) (sk := sk) (sp := sp) hr rfl r 0 (by omega) ou ov (hp _ _ (fun k hk => tk_sw_at hk) (fun k hk => tk_sw_at hk)) (r + 1) (by omega)
  unfold wpX_keepOthers
  exact ⟨_, H⟩
/-! sums of steps -/
def tk_ps (x : Nat → Int32) : Nat → Int32
  | 0 => 0
  | n + 1 => tk_ps x n + x n
theorem tk_ps_add {x : Nat → Int32} {a : Nat} {c : Int32} : ∀ q, tk_ps (upd x a (x a + c)) q = if a < q then tk_ps x q + c else tk_ps x q := by
  intro q
  induction q with
  | zero => rfl
  | succ q ih =>
    show tk_ps (upd x a (x a + c)) q + upd x a (x a + c) q = if a < q + 1 then tk_ps x q + x q + c else tk_ps x q + x q
    rw [ih]
    rcases Nat.lt_trichotomy a q with z | z | z
    · rw [if_pos z, if_pos (by omega), pk_un (by omega), Int32.add_assoc, Int32.add_comm c, Int32.add_assoc]
    · subst z
      rw [if_neg (Nat.lt_irrefl a), if_pos (by omega), pk_us, Int32.add_assoc]
    · rw [if_neg (by omega), if_neg (by omega), pk_un (by omega)]
theorem tk_ps_sub {x : Nat → Int32} {a : Nat} {c : Int32} (q : Nat) : tk_ps (upd x a (x a - c)) q = if a < q then tk_ps x q - c else tk_ps x q := by
  rw [Int32.sub_eq_add_neg, tk_ps_add, Int32.sub_eq_add_neg]
theorem tk_ps_0 {x : Nat → Int32} {n : Nat} (h : ∀ k, k < n → x k = 0) : tk_ps x n = 0 := by
  induction n with
  | zero => rfl
  | succ n ih =>
    show tk_ps x n + x n = 0
    rw [ih (fun k hk => h k (by omega)), h n (by omega)]
    rfl
/-- one stretch's two steps -/
theorem tk_ps_2 {x : Nat → Int32} {a b v m q : Nat} {c : Int32} (hab : a < b) (hc : c = nI m) (h : tk_ps x (q + 1) = nI v) :
    tk_ps (upd (upd x a (x a + c)) b (upd x a (x a + c) b - c)) (q + 1) = nI (if a ≤ q ∧ q < b then v + m else v) := by
  rw [tk_ps_sub, tk_ps_add, h, hc]
  by_cases z1 : a < q + 1
  · by_cases z2 : b < q + 1
    · rw [if_pos z2, if_pos z1, if_neg (by omega), Int32.add_sub_cancel]
    · rw [if_neg z2, if_pos z1, if_pos (by omega), nI_add]
  · rw [if_neg (by omega), if_neg z1, if_neg (by omega)]
theorem xw_cs2 {post : SX → Prop} {fr fo fh fb : Int32} {xs xe xz ho li fi mi hs sk ru rv ou ov : Nat → Int32} {t n : Nat} {s e : Nat → Nat} (ht : t < 3) (hn : n ≤ 32) (hso : tk_so n s e) (hz : xz t = nI n) (hx : ∀ j, j < n → xs (32 * t + j) = nI (s j) ∧ xe (32 * t + j) = nI (e j))
    (hp : ∀ (sp : Nat → Int32), (∀ q, q < 64 → tk_ps sp (q + 1) = nI (tk_dp n s e q)) → post (fr, fo, fh, fb, xs, xe, xz, ho, li, fi, mi, hs, sk, ru, rv, ou, ov, sp)) :
    ∀ m i, i + m = n → ∀ (sp : Nat → Int32), (∀ q, q < 64 → tk_ps sp (q + 1) = nI (tk_dp i s e q)) →
    ∀ f, m < f → wX_countSteps_26 post (nI t) fr fo fh fb f (nI (32 * t + i)) xs xe xz ho li fi mi hs sk ru rv ou ov sp := by
  intro m
  induction m with
  | zero =>
    intro i hi sp h f hf
    obtain ⟨f, rfl⟩ : ∃ g, f = g + 1 := ⟨f - 1, by omega⟩
    have e0 : i = n := by omega
    subst e0
    have g0 : 32 * t + i ≤ 32 * t + i := Nat.le_refl _
    simp (disch := omega) only [wX_countSteps_26, g0, hz, forall_eq, nI_leI, nI_ltI, nI_eq, vp_in_nI, nI_clamp, nI_1, nI_add, tw_32, tw_32r, tw_p, sb_m1, tw_s1, tw_65, Nat.add_sub_cancel, tw_l0a, tw_l0b, tw_l0c, tw_l0d, tw_l0e, tw_l1a, tw_l1b, tw_l1c, tw_l1d, tw_l1e, tw_l2a, tw_l2b, tw_l2c, tw_l2d, tw_l2e, tw_l3a, tw_l3b, tw_l3c, tw_l3d, tw_l3e, tw_l4a, tw_l4b, tw_l4c, tw_l4d, tw_l4e, tw_l7a, tw_l7b, tw_l7c, tw_l7d, tw_l7e, tw_l31a, tw_l31b, tw_l31c, tw_l31d, tw_l31e, tw_l32a, tw_l32b, tw_l32c, tw_l32d, tw_l32e, tw_l63a, tw_l63b, tw_l63c, tw_l63d, tw_l63e, tw_l64a, tw_l64b, tw_l64c, tw_l64d, tw_l64e, true_implies, forall_const, not_true_eq_false, not_false_eq_true, false_implies, and_true, true_and, implies_true, and_self]
    exact hp sp h
  | succ m ih =>
    intro i hi sp h f hf
    obtain ⟨f, rfl⟩ : ∃ g, f = g + 1 := ⟨f - 1, by omega⟩
    have g0 : ¬ 32 * t + n ≤ 32 * t + i := by omega
    have i1 := (hx i (by omega)).1
    have i2 := (hx i (by omega)).2
    have b0 := hso.1 i (by omega)
    have H := ih (i + 1) (by omega) (upd (upd sp (s i) (sp (s i) + 1)) (e i) (upd sp (s i) (sp (s i) + 1) (e i) - 1)) (fun q hq => by
      rw [tk_ps_2 (c := 1) (m := 1) b0.1 rfl (h q hq)]
      by_cases z : s i ≤ q ∧ q < e i
      · rw [if_pos z, tk_dp_t z]
      · rw [if_neg z, tk_dp_f z]) f (by omega)
    simp (disch := omega) only [wX_countSteps_26, g0, hz, i1, i2, forall_eq, nI_leI, nI_ltI, nI_eq, vp_in_nI, nI_clamp, nI_1, nI_add, tw_32, tw_32r, tw_p, sb_m1, tw_s1, tw_65, Nat.add_sub_cancel, tw_l0a, tw_l0b, tw_l0c, tw_l0d, tw_l0e, tw_l1a, tw_l1b, tw_l1c, tw_l1d, tw_l1e, tw_l2a, tw_l2b, tw_l2c, tw_l2d, tw_l2e, tw_l3a, tw_l3b, tw_l3c, tw_l3d, tw_l3e, tw_l4a, tw_l4b, tw_l4c, tw_l4d, tw_l4e, tw_l7a, tw_l7b, tw_l7c, tw_l7d, tw_l7e, tw_l31a, tw_l31b, tw_l31c, tw_l31d, tw_l31e, tw_l32a, tw_l32b, tw_l32c, tw_l32d, tw_l32e, tw_l63a, tw_l63b, tw_l63c, tw_l63d, tw_l63e, tw_l64a, tw_l64b, tw_l64c, tw_l64d, tw_l64e, true_implies, forall_const, not_true_eq_false, not_false_eq_true, false_implies, and_true, true_and, implies_true, and_self]
    exact H
theorem xw_cs1 {post : SX → Prop} {fr fo fh fb : Int32} {xs xe xz ho li fi mi hs sk ru rv ou ov : Nat → Int32} {t : Nat}
    (hp : ∀ (sp : Nat → Int32), (∀ k, k < 65 → sp k = 0) → ∃ n26 : Nat, wX_countSteps_26 post (nI t) fr fo fh fb n26 (nI (32 * t)) xs xe xz ho li fi mi hs sk ru rv ou ov sp) :
    ∀ m p, p + m = 65 → ∀ (sp : Nat → Int32), (∀ k, k < p → sp k = 0) → ∀ f, m < f → wX_countSteps_2 post (nI t) fr fo fh fb f (nI p) xs xe xz ho li fi mi hs sk ru rv ou ov sp := by
  intro m
  induction m with
  | zero =>
    intro p hi sp h f hf
    obtain ⟨f, rfl⟩ : ∃ g, f = g + 1 := ⟨f - 1, by omega⟩
    have g0 : 64 < p := by omega
    simp (disch := omega) only [wX_countSteps_2, g0, forall_eq, nI_leI, nI_ltI, nI_eq, vp_in_nI, nI_clamp, nI_1, nI_add, tw_32, tw_32r, tw_p, sb_m1, tw_s1, tw_65, Nat.add_sub_cancel, tw_l0a, tw_l0b, tw_l0c, tw_l0d, tw_l0e, tw_l1a, tw_l1b, tw_l1c, tw_l1d, tw_l1e, tw_l2a, tw_l2b, tw_l2c, tw_l2d, tw_l2e, tw_l3a, tw_l3b, tw_l3c, tw_l3d, tw_l3e, tw_l4a, tw_l4b, tw_l4c, tw_l4d, tw_l4e, tw_l7a, tw_l7b, tw_l7c, tw_l7d, tw_l7e, tw_l31a, tw_l31b, tw_l31c, tw_l31d, tw_l31e, tw_l32a, tw_l32b, tw_l32c, tw_l32d, tw_l32e, tw_l63a, tw_l63b, tw_l63c, tw_l63d, tw_l63e, tw_l64a, tw_l64b, tw_l64c, tw_l64d, tw_l64e, true_implies, forall_const, not_true_eq_false, not_false_eq_true, false_implies, and_true, true_and, implies_true, and_self]
    exact hp sp (fun k hk => h k (by omega))
  | succ m ih =>
    intro p hi sp h f hf
    obtain ⟨f, rfl⟩ : ∃ g, f = g + 1 := ⟨f - 1, by omega⟩
    have g0 : ¬ 64 < p := by omega
    have H := ih (p + 1) (by omega) (upd sp p 0) (fun k hk => by
      by_cases z : k = p
      · subst z; exact pk_us
      · rw [pk_un z]; exact h k (by omega)) f (by omega)
    simp (disch := omega) only [wX_countSteps_2, g0, forall_eq, nI_leI, nI_ltI, nI_eq, vp_in_nI, nI_clamp, nI_1, nI_add, tw_32, tw_32r, tw_p, sb_m1, tw_s1, tw_65, Nat.add_sub_cancel, tw_l0a, tw_l0b, tw_l0c, tw_l0d, tw_l0e, tw_l1a, tw_l1b, tw_l1c, tw_l1d, tw_l1e, tw_l2a, tw_l2b, tw_l2c, tw_l2d, tw_l2e, tw_l3a, tw_l3b, tw_l3c, tw_l3d, tw_l3e, tw_l4a, tw_l4b, tw_l4c, tw_l4d, tw_l4e, tw_l7a, tw_l7b, tw_l7c, tw_l7d, tw_l7e, tw_l31a, tw_l31b, tw_l31c, tw_l31d, tw_l31e, tw_l32a, tw_l32b, tw_l32c, tw_l32d, tw_l32e, tw_l63a, tw_l63b, tw_l63c, tw_l63d, tw_l63e, tw_l64a, tw_l64b, tw_l64c, tw_l64d, tw_l64e, true_implies, forall_const, not_true_eq_false, not_false_eq_true, false_implies, and_true, true_and, implies_true, and_self]
    exact H
theorem xw_count {post : SX → Prop} {fr fo fh fb : Int32} {xs xe xz ho li fi mi hs sk ru rv ou ov sp : Nat → Int32} {N : Nat → Nat} {S E : Nat → Nat → Nat} {t : Nat} (ok : tk_ok N S E) (R : tk_rx N S E xs xe xz) (ht : t < 3)
    (hp : ∀ (sp : Nat → Int32), (∀ q, q < 64 → tk_ps sp (q + 1) = nI (tk_dp (N t) (S t) (E t) q)) → post (fr, fo, fh, fb, xs, xe, xz, ho, li, fi, mi, hs, sk, ru, rv, ou, ov, sp)) : wpX_countSteps post (fr, fo, fh, fb, xs, xe, xz, ho, li, fi, mi, hs, sk, ru, rv, ou, ov, sp) (nI t) := by
  unfold wpX_countSteps
  refine ⟨66, xw_cs1 (fun sp h => ⟨N t + 1, ?_⟩) 65 0 (by omega) sp (fun k hk => absurd hk (Nat.not_lt_zero k)) 66 (by omega)⟩
  exact xw_cs2 ht (ok t ht).1 (ok t ht).2 (R.1 t ht) (tw_pair R ht) hp (N t) 0 (by omega) sp (fun q hq => by
    rw [tk_ps_0 (fun k hk => h k (by omega))]; rfl) (N t + 1) (by omega)
end
section
/-! X's walk along two lists of runs -/
def tk_hd (k : Nat) (a b : Bool) : Bool := if k = 0 then a && b else if k = 1 then a || b else if k = 2 then a != b else a && !b
def tk_W (k : Nat) (P Q : Nat → Bool) : Nat → Bool := fun p => decide (p < 64) && tk_hd k (P p) (Q p)
theorem tk_W_lo {k p : Nat} {P Q : Nat → Bool} (h : p < 64) : tk_W k P Q p = tk_hd k (P p) (Q p) := by
  unfold tk_W
  rw [decide_eq_true h, Bool.true_and]
theorem tk_W_hi {k p : Nat} {P Q : Nat → Bool} (h : 64 ≤ p) : tk_W k P Q p = false := by
  unfold tk_W
  rw [decide_eq_false (by omega), Bool.false_and]
theorem xw_holds {post : Int32 → Prop} {k : Nat} {a b : Bool} (hk : k < 4) (h : post (tw_b (tk_hd k a b))) : wpX_holds post (nI k) (tw_b a) (tw_b b) := by
  unfold wpX_holds
  have c : k = 0 ∨ k = 1 ∨ k = 2 ∨ k = 3 := by omega
  rcases c with c | c | c | c
  · subst c
    refine br_t rfl ?_
    cases a
    · exact br_t rfl h
    · refine br_f tw_10 ?_
      cases b
      · exact br_t rfl h
      · exact br_f tw_10 h
  · subst c
    refine br_f (by decide) (br_t rfl ?_)
    cases a
    · refine br_t rfl ?_
      cases b
      · exact br_t rfl h
      · exact br_f tw_10 h
    · exact br_f tw_10 h
  · subst c
    refine br_f (by decide) (br_f (by decide) (br_t rfl ?_))
    cases a
    · cases b
      · exact br_t rfl h
      · exact br_f (by decide) h
    · cases b
      · exact br_f (by decide) h
      · exact br_t rfl h
  · subst c
    refine br_f (by decide) (br_f (by decide) (br_f (by decide) ?_))
    cases a
    · exact br_t rfl h
    · refine br_f tw_10 ?_
      cases b
      · exact br_t rfl h
      · exact br_f tw_10 h
def tk_i1 (a : Bool) : Nat := if a = true then 1 else 0
theorem tk_msk (a b : Bool) : ((nI (tk_i1 a + 4 * tk_i1 b) &&& 3) = 1 ↔ a = true) ∧ (nI (tk_i1 a + 4 * tk_i1 b) < 4 ↔ b = false) := by
  cases a <;> cases b <;> decide
theorem xw_172 {post : SX → Prop} {J : Int32 → Int32 → Int32 → Int32 → (Nat → Int32) → (Nat → Int32) → (Nat → Int32) → (Nat → Int32) → (Nat → Int32) → (Nat → Int32) → (Nat → Int32) → (Nat → Int32) → (Nat → Int32) → (Nat → Int32) → (Nat → Int32) → (Nat → Int32) → (Nat → Int32) → (Nat → Int32) → Prop} {fr fo fh fb : Int32} {xs xe xz ho li fi mi hs sk ru rv ou ov sp : Nat → Int32} {x1 x2 x3 x4 : Int32} {k : Nat} {a b : Bool} (hk : k < 4) (H : wX_walkBoth_183 post J x1 x2 x3 x4 (tw_b (tk_hd k a b)) fr fo fh fb xs xe xz ho li fi mi hs sk ru rv ou ov sp) : wX_walkBoth_172 post J x1 x2 x3 x4 (tw_b b) (tw_b a) (nI k) fr fo fh fb xs xe xz ho li fi mi hs sk ru rv ou ov sp := by
  unfold wX_walkBoth_172
  refine xw_holds hk ?_
  cases h : tk_hd k a b
  · rw [h] at H
    exact br_t rfl H
  · rw [h] at H
    exact br_f tw_10 H
theorem xw_162 {post : SX → Prop} {J : Int32 → Int32 → Int32 → Int32 → (Nat → Int32) → (Nat → Int32) → (Nat → Int32) → (Nat → Int32) → (Nat → Int32) → (Nat → Int32) → (Nat → Int32) → (Nat → Int32) → (Nat → Int32) → (Nat → Int32) → (Nat → Int32) → (Nat → Int32) → (Nat → Int32) → (Nat → Int32) → Prop} {fr fo fh fb : Int32} {xs xe xz ho li fi mi hs sk ru rv ou ov sp : Nat → Int32} {x1 x2 x3 x4 : Int32} {k : Nat} {a b : Bool} (hk : k < 4) (hx : x2 = nI (tk_i1 a + 4 * tk_i1 b)) (H : wX_walkBoth_183 post J x1 x2 x3 x4 (tw_b (tk_hd k a b)) fr fo fh fb xs xe xz ho li fi mi hs sk ru rv ou ov sp) : wX_walkBoth_162 post J x1 x2 x3 x4 (tw_b a) (nI k) fr fo fh fb xs xe xz ho li fi mi hs sk ru rv ou ov sp := by
  unfold wX_walkBoth_162
  have c := (tk_msk a b).2
  rw [← hx] at c
  cases b
  · exact br_t (c.mpr rfl) (xw_172 (b := false) hk H)
  · exact br_f (fun z => Bool.noConfusion (c.mp z)) (xw_172 (b := true) hk H)
theorem xw_125 {post : SX → Prop} {fr fo fh fb : Int32} {xs xe xz ho li fi mi hs sk ru rv ou ov sp : Nat → Int32} {x3 : Int32} {k p n : Nat} {P Q : Nat → Bool} (hk : k < 4) (hp : p < 65) (hs1 : p < 64 → tk_ps sp (p + 1) = nI (tk_i1 (P p) + 4 * tk_i1 (Q p)))
    (H : wX_walkBoth_183 post (wX_walkBoth_125 post (nI k) fo fh fb n) (nI k) (tk_ps sp (p + 1)) x3 (nI p) (tw_b (tk_W k P Q p)) fr fo fh fb xs xe xz ho li fi mi hs sk ru rv ou ov sp) :
    wX_walkBoth_125 post (nI k) fo fh fb (n + 1) (tk_ps sp p) x3 (nI p) fr xs xe xz ho li fi mi hs sk ru rv ou ov sp := by
  have e : tk_ps sp p + sp p = tk_ps sp (p + 1) := rfl
  have g0 : ¬ 64 < p := by omega
  by_cases z : p < 64
  · have g1 : ¬ 64 ≤ p := by omega
    have hv := hs1 z
    rw [tk_W_lo z] at H
    have c := (tk_msk (P p) (Q p)).1
    rw [← hv] at c
    simp (disch := omega) only [wX_walkBoth_125, g0, g1, e, forall_eq, nI_leI, nI_ltI, nI_eq, vp_in_nI, nI_clamp, nI_1, nI_add, tw_32, tw_32r, tw_p, sb_m1, tw_s1, tw_65, Nat.add_sub_cancel, tw_l0a, tw_l0b, tw_l0c, tw_l0d, tw_l0e, tw_l1a, tw_l1b, tw_l1c, tw_l1d, tw_l1e, tw_l2a, tw_l2b, tw_l2c, tw_l2d, tw_l2e, tw_l3a, tw_l3b, tw_l3c, tw_l3d, tw_l3e, tw_l4a, tw_l4b, tw_l4c, tw_l4d, tw_l4e, tw_l7a, tw_l7b, tw_l7c, tw_l7d, tw_l7e, tw_l31a, tw_l31b, tw_l31c, tw_l31d, tw_l31e, tw_l32a, tw_l32b, tw_l32c, tw_l32d, tw_l32e, tw_l63a, tw_l63b, tw_l63c, tw_l63d, tw_l63e, tw_l64a, tw_l64b, tw_l64c, tw_l64d, tw_l64e, true_implies, forall_const, not_true_eq_false, not_false_eq_true, false_implies, and_true, true_and, implies_true, and_self]
    by_cases y : P p = true
    · refine br_t (c.mpr y) ?_
      have H2 := xw_162 (a := P p) hk hv H
      rw [y] at H2
      exact H2
    · refine br_f (fun w => y (c.mp w)) ?_
      have H2 := xw_162 (a := P p) hk hv H
      rw [Bool.eq_false_iff.mpr y] at H2
      exact H2
  · have g1 : 64 ≤ p := by omega
    rw [tk_W_hi g1] at H
    simp (disch := omega) only [wX_walkBoth_125, wX_walkBoth_182, g0, g1, e, forall_eq, nI_leI, nI_ltI, nI_eq, vp_in_nI, nI_clamp, nI_1, nI_add, tw_32, tw_32r, tw_p, sb_m1, tw_s1, tw_65, Nat.add_sub_cancel, tw_l0a, tw_l0b, tw_l0c, tw_l0d, tw_l0e, tw_l1a, tw_l1b, tw_l1c, tw_l1d, tw_l1e, tw_l2a, tw_l2b, tw_l2c, tw_l2d, tw_l2e, tw_l3a, tw_l3b, tw_l3c, tw_l3d, tw_l3e, tw_l4a, tw_l4b, tw_l4c, tw_l4d, tw_l4e, tw_l7a, tw_l7b, tw_l7c, tw_l7d, tw_l7e, tw_l31a, tw_l31b, tw_l31c, tw_l31d, tw_l31e, tw_l32a, tw_l32b, tw_l32c, tw_l32d, tw_l32e, tw_l63a, tw_l63b, tw_l63c, tw_l63d, tw_l63e, tw_l64a, tw_l64b, tw_l64c, tw_l64d, tw_l64e, true_implies, forall_const, not_true_eq_false, not_false_eq_true, false_implies, and_true, true_and, implies_true, and_self]
    exact H
theorem tw_10f : ((1 : Int32) = 0) = False := eq_false tw_10
theorem xw_w5 {post : SX → Prop} {fo fh fb : Int32} {xs xe xz ho li fi mi hs sk ou ov sp : Nat → Int32} {k : Nat} {P Q : Nat → Bool} (hk : k < 4) (hs1 : ∀ p, p < 64 → tk_ps sp (p + 1) = nI (tk_i1 (P p) + 4 * tk_i1 (Q p)))
    (hp : ∀ (r : Nat) (rs re : Nat → Nat) (ru rv : Nat → Int32), tk_nf r rs re (tk_W k P Q) 65 → (∀ k, k < r → ru k = nI (rs k)) → (∀ k, k < r → rv k = nI (re k)) → post (nI r, fo, fh, fb, xs, xe, xz, ho, li, fi, mi, hs, sk, ru, rv, ou, ov, sp)) :
    ∀ m p, p + m = 65 → (∀ (r : Nat) (rs re : Nat → Nat) (ru rv : Nat → Int32), tk_nf r rs re (tk_W k P Q) p → (∀ k, k < r → ru k = nI (rs k)) → (∀ k, k < r → rv k = nI (re k)) → ∀ f, m < f → wX_walkBoth_125 post (nI k) fo fh fb f (tk_ps sp p) 0 (nI p) (nI r) xs xe xz ho li fi mi hs sk ru rv ou ov sp)
      ∧ (∀ (r b : Nat) (rs re : Nat → Nat) (ru rv : Nat → Int32), tk_nf r rs re (tk_W k P Q) b → b < p → (∀ q, b ≤ q → q < p → tk_W k P Q q = true) → (∀ k, k < r → ru k = nI (rs k)) → (∀ k, k < r → rv k = nI (re k)) → ru r = nI b → ∀ f, m < f → wX_walkBoth_125 post (nI k) fo fh fb f (tk_ps sp p) 1 (nI p) (nI r) xs xe xz ho li fi mi hs sk ru rv ou ov sp) := by
  intro m
  induction m with
  | zero =>
    intro p hm
    have e0 : p = 65 := by omega
    subst e0
    constructor
    · intro r rs re ru rv nf h1 h2 f hf
      obtain ⟨f, rfl⟩ : ∃ g, f = g + 1 := ⟨f - 1, by omega⟩
      have g0 : 64 < 65 := by omega
      simp (disch := omega) only [wX_walkBoth_125, g0, forall_eq, nI_leI, nI_ltI, nI_eq, vp_in_nI, nI_clamp, nI_1, nI_add, tw_32, tw_32r, tw_p, sb_m1, tw_s1, tw_65, Nat.add_sub_cancel, tw_l0a, tw_l0b, tw_l0c, tw_l0d, tw_l0e, tw_l1a, tw_l1b, tw_l1c, tw_l1d, tw_l1e, tw_l2a, tw_l2b, tw_l2c, tw_l2d, tw_l2e, tw_l3a, tw_l3b, tw_l3c, tw_l3d, tw_l3e, tw_l4a, tw_l4b, tw_l4c, tw_l4d, tw_l4e, tw_l7a, tw_l7b, tw_l7c, tw_l7d, tw_l7e, tw_l31a, tw_l31b, tw_l31c, tw_l31d, tw_l31e, tw_l32a, tw_l32b, tw_l32c, tw_l32d, tw_l32e, tw_l63a, tw_l63b, tw_l63c, tw_l63d, tw_l63e, tw_l64a, tw_l64b, tw_l64c, tw_l64d, tw_l64e, true_implies, forall_const, not_true_eq_false, not_false_eq_true, false_implies, and_true, true_and, implies_true, and_self]
      exact hp r rs re ru rv nf h1 h2
    · intro r b rs re ru rv nf hb hq h1 h2 h3 f hf
      have z := hq 64 (by omega) (by omega)
      rw [tk_W_hi (Nat.le_refl 64)] at z
      cases z
  | succ m ih =>
    intro p hm
    have I := ih (p + 1) (by omega)
    constructor
    · intro r rs re ru rv nf h1 h2 f hf
      obtain ⟨f, rfl⟩ : ∃ g, f = g + 1 := ⟨f - 1, by omega⟩
      refine xw_125 (P := P) (Q := Q) hk (by omega) (fun z => hs1 p z) ?_
      have ln := tk_nf_len nf
      by_cases w : tk_W k P Q p = true
      · have hp64 : p < 64 := by
          by_cases y : p < 64
          · exact y
          · rw [tk_W_hi (by omega)] at w
            cases w
        have H := I.2 r p rs re (upd ru r (nI p)) rv nf (by omega) (fun q q1 q2 => by rw [show q = p by omega]; exact w) (fun j hj => by rw [pk_un (by omega)]; exact h1 j hj) h2 pk_us f (by omega)
        rw [w]
        simp (disch := omega) only [wX_walkBoth_183, wX_walkBoth_208, tw_bt, tw_10f, eq_self, forall_eq, nI_leI, nI_ltI, nI_eq, vp_in_nI, nI_clamp, nI_1, nI_add, tw_32, tw_32r, tw_p, sb_m1, tw_s1, tw_65, Nat.add_sub_cancel, tw_l0a, tw_l0b, tw_l0c, tw_l0d, tw_l0e, tw_l1a, tw_l1b, tw_l1c, tw_l1d, tw_l1e, tw_l2a, tw_l2b, tw_l2c, tw_l2d, tw_l2e, tw_l3a, tw_l3b, tw_l3c, tw_l3d, tw_l3e, tw_l4a, tw_l4b, tw_l4c, tw_l4d, tw_l4e, tw_l7a, tw_l7b, tw_l7c, tw_l7d, tw_l7e, tw_l31a, tw_l31b, tw_l31c, tw_l31d, tw_l31e, tw_l32a, tw_l32b, tw_l32c, tw_l32d, tw_l32e, tw_l63a, tw_l63b, tw_l63c, tw_l63d, tw_l63e, tw_l64a, tw_l64b, tw_l64c, tw_l64d, tw_l64e, true_implies, forall_const, not_true_eq_false, not_false_eq_true, false_implies, and_true, true_and, implies_true, and_self]
        exact H
      · have H := I.1 r rs re ru rv (tk_nf_skip nf w) h1 h2 f (by omega)
        rw [Bool.eq_false_iff.mpr w]
        simp (disch := omega) only [wX_walkBoth_183, wX_walkBoth_208, tw_bf, tw_10f, eq_self, forall_eq, nI_leI, nI_ltI, nI_eq, vp_in_nI, nI_clamp, nI_1, nI_add, tw_32, tw_32r, tw_p, sb_m1, tw_s1, tw_65, Nat.add_sub_cancel, tw_l0a, tw_l0b, tw_l0c, tw_l0d, tw_l0e, tw_l1a, tw_l1b, tw_l1c, tw_l1d, tw_l1e, tw_l2a, tw_l2b, tw_l2c, tw_l2d, tw_l2e, tw_l3a, tw_l3b, tw_l3c, tw_l3d, tw_l3e, tw_l4a, tw_l4b, tw_l4c, tw_l4d, tw_l4e, tw_l7a, tw_l7b, tw_l7c, tw_l7d, tw_l7e, tw_l31a, tw_l31b, tw_l31c, tw_l31d, tw_l31e, tw_l32a, tw_l32b, tw_l32c, tw_l32d, tw_l32e, tw_l63a, tw_l63b, tw_l63c, tw_l63d, tw_l63e, tw_l64a, tw_l64b, tw_l64c, tw_l64d, tw_l64e, true_implies, forall_const, not_true_eq_false, not_false_eq_true, false_implies, and_true, true_and, implies_true, and_self]
        exact H
    · intro r b rs re ru rv nf hb hq h1 h2 h3 f hf
      obtain ⟨f, rfl⟩ : ∃ g, f = g + 1 := ⟨f - 1, by omega⟩
      refine xw_125 (P := P) (Q := Q) hk (by omega) (fun z => hs1 p z) ?_
      have ln := tk_nf_len nf
      by_cases w : tk_W k P Q p = true
      · have H := I.2 r b rs re ru rv nf (by omega) (fun q q1 q2 => by
          by_cases y : q = p
          · rw [y]; exact w
          · exact hq q q1 (by omega)) h1 h2 h3 f (by omega)
        rw [w]
        simp (disch := omega) only [wX_walkBoth_183, wX_walkBoth_208, tw_bt, tw_10f, eq_self, forall_eq, nI_leI, nI_ltI, nI_eq, vp_in_nI, nI_clamp, nI_1, nI_add, tw_32, tw_32r, tw_p, sb_m1, tw_s1, tw_65, Nat.add_sub_cancel, tw_l0a, tw_l0b, tw_l0c, tw_l0d, tw_l0e, tw_l1a, tw_l1b, tw_l1c, tw_l1d, tw_l1e, tw_l2a, tw_l2b, tw_l2c, tw_l2d, tw_l2e, tw_l3a, tw_l3b, tw_l3c, tw_l3d, tw_l3e, tw_l4a, tw_l4b, tw_l4c, tw_l4d, tw_l4e, tw_l7a, tw_l7b, tw_l7c, tw_l7d, tw_l7e, tw_l31a, tw_l31b, tw_l31c, tw_l31d, tw_l31e, tw_l32a, tw_l32b, tw_l32c, tw_l32d, tw_l32e, tw_l63a, tw_l63b, tw_l63c, tw_l63d, tw_l63e, tw_l64a, tw_l64b, tw_l64c, tw_l64d, tw_l64e, true_implies, forall_const, not_true_eq_false, not_false_eq_true, false_implies, and_true, true_and, implies_true, and_self]
        exact H
      · have H := I.1 (r + 1) (tk_st rs r b) (tk_st re r p) ru (upd rv r (nI p)) (tk_nf_add nf hb hq w (fun j hj => ⟨tk_st_ne (by omega), tk_st_ne (by omega)⟩) tk_st_at tk_st_at)
          (fun j hj => by
            by_cases y : j = r
            · subst y; rw [tk_st_at]; exact h3
            · rw [tk_st_ne y]; exact h1 j (by omega)) (tw_up (fun j hj hne => h2 j (by omega))) f (by omega)
        rw [Bool.eq_false_iff.mpr w]
        simp (disch := omega) only [wX_walkBoth_183, wX_walkBoth_208, tw_bf, tw_10f, eq_self, forall_eq, nI_leI, nI_ltI, nI_eq, vp_in_nI, nI_clamp, nI_1, nI_add, tw_32, tw_32r, tw_p, sb_m1, tw_s1, tw_65, Nat.add_sub_cancel, tw_l0a, tw_l0b, tw_l0c, tw_l0d, tw_l0e, tw_l1a, tw_l1b, tw_l1c, tw_l1d, tw_l1e, tw_l2a, tw_l2b, tw_l2c, tw_l2d, tw_l2e, tw_l3a, tw_l3b, tw_l3c, tw_l3d, tw_l3e, tw_l4a, tw_l4b, tw_l4c, tw_l4d, tw_l4e, tw_l7a, tw_l7b, tw_l7c, tw_l7d, tw_l7e, tw_l31a, tw_l31b, tw_l31c, tw_l31d, tw_l31e, tw_l32a, tw_l32b, tw_l32c, tw_l32d, tw_l32e, tw_l63a, tw_l63b, tw_l63c, tw_l63d, tw_l63e, tw_l64a, tw_l64b, tw_l64c, tw_l64d, tw_l64e, true_implies, forall_const, not_true_eq_false, not_false_eq_true, false_implies, and_true, true_and, implies_true, and_self]
        exact H
theorem xw_w69 {post : SX → Prop} {fr fh fb : Int32} {xs xe xz ho li fi mi hs sk ru rv ou ov : Nat → Int32} {k r : Nat} {rs re P : Nat → Nat} (hr : r ≤ 32) (hb : ∀ k, k < r → rs k < re k ∧ re k < 65) (h1 : ∀ k, k < r → ou k = nI (rs k)) (h2 : ∀ k, k < r → ov k = nI (re k))
    (hp : ∀ (sp : Nat → Int32), (∀ q, q < 64 → tk_ps sp (q + 1) = nI (P q + 4 * tk_dp r rs re q)) → ∃ n125 : Nat, wX_walkBoth_125 post (nI k) (nI r) fh fb n125 0 0 0 0 xs xe xz ho li fi mi hs sk ru rv ou ov sp) :
    ∀ m i, i + m = r → ∀ (sp : Nat → Int32), (∀ q, q < 64 → tk_ps sp (q + 1) = nI (P q + 4 * tk_dp i rs re q)) →
    ∀ f, m < f → wX_walkBoth_69 post (nI k) fr (nI r) fh fb f (nI i) xs xe xz ho li fi mi hs sk ru rv ou ov sp := by
  intro m
  induction m with
  | zero =>
    intro i hi sp h f hf
    obtain ⟨f, rfl⟩ : ∃ g, f = g + 1 := ⟨f - 1, by omega⟩
    have e0 : i = r := by omega
    subst e0
    have g0 : i ≤ i := Nat.le_refl _
    simp (disch := omega) only [wX_walkBoth_69, g0, forall_eq, nI_leI, nI_ltI, nI_eq, vp_in_nI, nI_clamp, nI_1, nI_add, tw_32, tw_32r, tw_p, sb_m1, tw_s1, tw_65, Nat.add_sub_cancel, tw_l0a, tw_l0b, tw_l0c, tw_l0d, tw_l0e, tw_l1a, tw_l1b, tw_l1c, tw_l1d, tw_l1e, tw_l2a, tw_l2b, tw_l2c, tw_l2d, tw_l2e, tw_l3a, tw_l3b, tw_l3c, tw_l3d, tw_l3e, tw_l4a, tw_l4b, tw_l4c, tw_l4d, tw_l4e, tw_l7a, tw_l7b, tw_l7c, tw_l7d, tw_l7e, tw_l31a, tw_l31b, tw_l31c, tw_l31d, tw_l31e, tw_l32a, tw_l32b, tw_l32c, tw_l32d, tw_l32e, tw_l63a, tw_l63b, tw_l63c, tw_l63d, tw_l63e, tw_l64a, tw_l64b, tw_l64c, tw_l64d, tw_l64e, true_implies, forall_const, not_true_eq_false, not_false_eq_true, false_implies, and_true, true_and, implies_true, and_self]
    exact hp sp h
  | succ m ih =>
    intro i hi sp h f hf
    obtain ⟨f, rfl⟩ : ∃ g, f = g + 1 := ⟨f - 1, by omega⟩
    have g0 : ¬ r ≤ i := by omega
    have i1 := h1 i (by omega)
    have i2 := h2 i (by omega)
    have b0 := hb i (by omega)
    have H := ih (i + 1) (by omega) (upd (upd sp (rs i) (sp (rs i) + 4)) (re i) (upd sp (rs i) (sp (rs i) + 4) (re i) - 4)) (fun q hq => by
      rw [tk_ps_2 (c := 4) (m := 4) b0.1 rfl (h q hq)]
      by_cases z : rs i ≤ q ∧ q < re i
      · rw [if_pos z, tk_dp_t z]
        exact congrArg nI (by omega)
      · rw [if_neg z, tk_dp_f z]) f (by omega)
    simp (disch := omega) only [wX_walkBoth_69, g0, i1, i2, forall_eq, nI_leI, nI_ltI, nI_eq, vp_in_nI, nI_clamp, nI_1, nI_add, tw_32, tw_32r, tw_p, sb_m1, tw_s1, tw_65, Nat.add_sub_cancel, tw_l0a, tw_l0b, tw_l0c, tw_l0d, tw_l0e, tw_l1a, tw_l1b, tw_l1c, tw_l1d, tw_l1e, tw_l2a, tw_l2b, tw_l2c, tw_l2d, tw_l2e, tw_l3a, tw_l3b, tw_l3c, tw_l3d, tw_l3e, tw_l4a, tw_l4b, tw_l4c, tw_l4d, tw_l4e, tw_l7a, tw_l7b, tw_l7c, tw_l7d, tw_l7e, tw_l31a, tw_l31b, tw_l31c, tw_l31d, tw_l31e, tw_l32a, tw_l32b, tw_l32c, tw_l32d, tw_l32e, tw_l63a, tw_l63b, tw_l63c, tw_l63d, tw_l63e, tw_l64a, tw_l64b, tw_l64c, tw_l64d, tw_l64e, true_implies, forall_const, not_true_eq_false, not_false_eq_true, false_implies, and_true, true_and, implies_true, and_self]
    exact H
theorem xw_w23 {post : SX → Prop} {fo fh fb : Int32} {xs xe xz ho li fi mi hs sk ru rv ou ov : Nat → Int32} {k r : Nat} {rs re : Nat → Nat} (hr : r ≤ 32) (hb : ∀ k, k < r → rs k < re k ∧ re k < 65) (h1 : ∀ k, k < r → ru k = nI (rs k)) (h2 : ∀ k, k < r → rv k = nI (re k))
    (hp : ∀ (sp : Nat → Int32), (∀ q, q < 64 → tk_ps sp (q + 1) = nI (tk_dp r rs re q)) → ∃ n69 : Nat, wX_walkBoth_69 post (nI k) (nI r) fo fh fb n69 0 xs xe xz ho li fi mi hs sk ru rv ou ov sp) :
    ∀ m i, i + m = r → ∀ (sp : Nat → Int32), (∀ q, q < 64 → tk_ps sp (q + 1) = nI (tk_dp i rs re q)) →
    ∀ f, m < f → wX_walkBoth_23 post (nI k) (nI r) fo fh fb f (nI i) xs xe xz ho li fi mi hs sk ru rv ou ov sp := by
  intro m
  induction m with
  | zero =>
    intro i hi sp h f hf
    obtain ⟨f, rfl⟩ : ∃ g, f = g + 1 := ⟨f - 1, by omega⟩
    have e0 : i = r := by omega
    subst e0
    have g0 : i ≤ i := Nat.le_refl _
    simp (disch := omega) only [wX_walkBoth_23, g0, forall_eq, nI_leI, nI_ltI, nI_eq, vp_in_nI, nI_clamp, nI_1, nI_add, tw_32, tw_32r, tw_p, sb_m1, tw_s1, tw_65, Nat.add_sub_cancel, tw_l0a, tw_l0b, tw_l0c, tw_l0d, tw_l0e, tw_l1a, tw_l1b, tw_l1c, tw_l1d, tw_l1e, tw_l2a, tw_l2b, tw_l2c, tw_l2d, tw_l2e, tw_l3a, tw_l3b, tw_l3c, tw_l3d, tw_l3e, tw_l4a, tw_l4b, tw_l4c, tw_l4d, tw_l4e, tw_l7a, tw_l7b, tw_l7c, tw_l7d, tw_l7e, tw_l31a, tw_l31b, tw_l31c, tw_l31d, tw_l31e, tw_l32a, tw_l32b, tw_l32c, tw_l32d, tw_l32e, tw_l63a, tw_l63b, tw_l63c, tw_l63d, tw_l63e, tw_l64a, tw_l64b, tw_l64c, tw_l64d, tw_l64e, true_implies, forall_const, not_true_eq_false, not_false_eq_true, false_implies, and_true, true_and, implies_true, and_self]
    exact hp sp h
  | succ m ih =>
    intro i hi sp h f hf
    obtain ⟨f, rfl⟩ : ∃ g, f = g + 1 := ⟨f - 1, by omega⟩
    have g0 : ¬ r ≤ i := by omega
    have i1 := h1 i (by omega)
    have i2 := h2 i (by omega)
    have b0 := hb i (by omega)
    have H := ih (i + 1) (by omega) (upd (upd sp (rs i) (sp (rs i) + 1)) (re i) (upd sp (rs i) (sp (rs i) + 1) (re i) - 1)) (fun q hq => by
      rw [tk_ps_2 (c := 1) (m := 1) b0.1 rfl (h q hq)]
      by_cases z : rs i ≤ q ∧ q < re i
      · rw [if_pos z, tk_dp_t z]
      · rw [if_neg z, tk_dp_f z]) f (by omega)
    simp (disch := omega) only [wX_walkBoth_23, g0, i1, i2, forall_eq, nI_leI, nI_ltI, nI_eq, vp_in_nI, nI_clamp, nI_1, nI_add, tw_32, tw_32r, tw_p, sb_m1, tw_s1, tw_65, Nat.add_sub_cancel, tw_l0a, tw_l0b, tw_l0c, tw_l0d, tw_l0e, tw_l1a, tw_l1b, tw_l1c, tw_l1d, tw_l1e, tw_l2a, tw_l2b, tw_l2c, tw_l2d, tw_l2e, tw_l3a, tw_l3b, tw_l3c, tw_l3d, tw_l3e, tw_l4a, tw_l4b, tw_l4c, tw_l4d, tw_l4e, tw_l7a, tw_l7b, tw_l7c, tw_l7d, tw_l7e, tw_l31a, tw_l31b, tw_l31c, tw_l31d, tw_l31e, tw_l32a, tw_l32b, tw_l32c, tw_l32d, tw_l32e, tw_l63a, tw_l63b, tw_l63c, tw_l63d, tw_l63e, tw_l64a, tw_l64b, tw_l64c, tw_l64d, tw_l64e, true_implies, forall_const, not_true_eq_false, not_false_eq_true, false_implies, and_true, true_and, implies_true, and_self]
    exact H
theorem xw_w2 {post : SX → Prop} {fr fo fh fb : Int32} {xs xe xz ho li fi mi hs sk ru rv ou ov : Nat → Int32} {k : Nat}
    (hp : ∀ (sp : Nat → Int32), (∀ k, k < 65 → sp k = 0) → ∃ n23 : Nat, wX_walkBoth_23 post (nI k) fr fo fh fb n23 0 xs xe xz ho li fi mi hs sk ru rv ou ov sp) :
    ∀ m p, p + m = 65 → ∀ (sp : Nat → Int32), (∀ k, k < p → sp k = 0) → ∀ f, m < f → wX_walkBoth_2 post (nI k) fr fo fh fb f (nI p) xs xe xz ho li fi mi hs sk ru rv ou ov sp := by
  intro m
  induction m with
  | zero =>
    intro p hi sp h f hf
    obtain ⟨f, rfl⟩ : ∃ g, f = g + 1 := ⟨f - 1, by omega⟩
    have g0 : 64 < p := by omega
    simp (disch := omega) only [wX_walkBoth_2, g0, forall_eq, nI_leI, nI_ltI, nI_eq, vp_in_nI, nI_clamp, nI_1, nI_add, tw_32, tw_32r, tw_p, sb_m1, tw_s1, tw_65, Nat.add_sub_cancel, tw_l0a, tw_l0b, tw_l0c, tw_l0d, tw_l0e, tw_l1a, tw_l1b, tw_l1c, tw_l1d, tw_l1e, tw_l2a, tw_l2b, tw_l2c, tw_l2d, tw_l2e, tw_l3a, tw_l3b, tw_l3c, tw_l3d, tw_l3e, tw_l4a, tw_l4b, tw_l4c, tw_l4d, tw_l4e, tw_l7a, tw_l7b, tw_l7c, tw_l7d, tw_l7e, tw_l31a, tw_l31b, tw_l31c, tw_l31d, tw_l31e, tw_l32a, tw_l32b, tw_l32c, tw_l32d, tw_l32e, tw_l63a, tw_l63b, tw_l63c, tw_l63d, tw_l63e, tw_l64a, tw_l64b, tw_l64c, tw_l64d, tw_l64e, true_implies, forall_const, not_true_eq_false, not_false_eq_true, false_implies, and_true, true_and, implies_true, and_self]
    exact hp sp (fun k hk => h k (by omega))
  | succ m ih =>
    intro p hi sp h f hf
    obtain ⟨f, rfl⟩ : ∃ g, f = g + 1 := ⟨f - 1, by omega⟩
    have g0 : ¬ 64 < p := by omega
    have H := ih (p + 1) (by omega) (upd sp p 0) (fun k hk => by
      by_cases z : k = p
      · subst z; exact pk_us
      · rw [pk_un z]; exact h k (by omega)) f (by omega)
    simp (disch := omega) only [wX_walkBoth_2, g0, forall_eq, nI_leI, nI_ltI, nI_eq, vp_in_nI, nI_clamp, nI_1, nI_add, tw_32, tw_32r, tw_p, sb_m1, tw_s1, tw_65, Nat.add_sub_cancel, tw_l0a, tw_l0b, tw_l0c, tw_l0d, tw_l0e, tw_l1a, tw_l1b, tw_l1c, tw_l1d, tw_l1e, tw_l2a, tw_l2b, tw_l2c, tw_l2d, tw_l2e, tw_l3a, tw_l3b, tw_l3c, tw_l3d, tw_l3e, tw_l4a, tw_l4b, tw_l4c, tw_l4d, tw_l4e, tw_l7a, tw_l7b, tw_l7c, tw_l7d, tw_l7e, tw_l31a, tw_l31b, tw_l31c, tw_l31d, tw_l31e, tw_l32a, tw_l32b, tw_l32c, tw_l32d, tw_l32e, tw_l63a, tw_l63b, tw_l63c, tw_l63d, tw_l63e, tw_l64a, tw_l64b, tw_l64c, tw_l64d, tw_l64e, true_implies, forall_const, not_true_eq_false, not_false_eq_true, false_implies, and_true, true_and, implies_true, and_self]
    exact H
theorem xw_walk {post : SX → Prop} {fh fb : Int32} {xs xe xz ho li fi mi hs sk ru rv ou ov sp : Nat → Int32} {k r r2 : Nat} {rs re rs2 re2 : Nat → Nat} {P Q : Nat → Bool} (hk : k < 4) (nf : tk_nf r rs re P 65) (nf2 : tk_nf r2 rs2 re2 Q 65)
    (h1 : ∀ k, k < r → ru k = nI (rs k)) (h2 : ∀ k, k < r → rv k = nI (re k)) (h3 : ∀ k, k < r2 → ou k = nI (rs2 k)) (h4 : ∀ k, k < r2 → ov k = nI (re2 k))
    (hp : ∀ (r' : Nat) (rs' re' : Nat → Nat) (ru rv sp : Nat → Int32), tk_nf r' rs' re' (tk_W k P Q) 65 → (∀ k, k < r' → ru k = nI (rs' k)) → (∀ k, k < r' → rv k = nI (re' k)) → post (nI r', nI r2, fh, fb, xs, xe, xz, ho, li, fi, mi, hs, sk, ru, rv, ou, ov, sp)) :
    wpX_walkBoth post (nI r, nI r2, fh, fb, xs, xe, xz, ho, li, fi, mi, hs, sk, ru, rv, ou, ov, sp) (nI k) := by
  have l1 := tk_nf_len nf
  have l2 := tk_nf_len nf2
  unfold wpX_walkBoth
  refine ⟨66, xw_w2 (fun sp h => ⟨r + 1, ?_⟩) 65 0 (by omega) sp (fun k hk => absurd hk (Nat.not_lt_zero k)) 66 (by omega)⟩
  refine xw_w23 (by omega) nf.1 h1 h2 (fun sp h => ⟨r2 + 1, ?_⟩) r 0 (by omega) sp (fun q hq => by
    rw [tk_ps_0 (fun k hk => h k (by omega))]; rfl) (r + 1) (by omega)
  refine xw_w69 (P := fun q => tk_dp r rs re q) (by omega) nf2.1 h3 h4 (fun sp h => ⟨66, ?_⟩) r2 0 (by omega) sp (fun q hq => by
    rw [h q hq]; exact congrArg nI (by show tk_dp r rs re q = tk_dp r rs re q + 4 * 0; omega)) (r2 + 1) (by omega)
  exact (xw_w5 (P := P) (Q := Q) hk (fun q hq => by
    have e1 : tk_dp r rs re q = tk_i1 (P q) := tk_nf_cb nf (by omega)
    have e2 : tk_dp r2 rs2 re2 q = tk_i1 (Q q) := tk_nf_cb nf2 (by omega)
    rw [h q hq, e1, e2]) (fun r' rs' re' ru rv => hp r' rs' re' ru rv sp) 65 0 (by omega)).1 0 (fun _ => 0) (fun _ => 0) ru rv tk_nf_0 (fun k hk => absurd hk (Nat.not_lt_zero k)) (fun k hk => absurd hk (Nat.not_lt_zero k)) 66 (by omega)
end
section
/-! X's holders and lists -/
def tw_h (g : Nat) : Int32 := nI g - 1
theorem tw_h0 : tw_h 0 = -1 := by decide
theorem tw_hS (g : Nat) : tw_h (g + 1) = nI g := nI_pred g
theorem tw_h1 (g : Nat) : tw_h g + 1 = nI g := Int32.sub_add_cancel _ _
theorem tw_hle {n g : Nat} (hn : n < 2 ^ 30) (hg : g < 2 ^ 30) : nI n ≤ tw_h g ↔ n < g := by
  cases g with
  | zero =>
    rw [tw_h0, Int32.le_iff_toInt_le, nI_toInt (by omega), show (-1 : Int32).toInt = -1 from by decide]
    omega
  | succ g =>
    rw [tw_hS, nI_leI (by omega) (by omega)]
    omega
theorem tw_heq {a b : Nat} (ha : a < 2 ^ 31) (hb : b < 2 ^ 31) : tw_h a = tw_h b ↔ a = b := by
  constructor
  · intro h
    have h2 : tw_h a + 1 = tw_h b + 1 := congrArg (· + 1) h
    rw [tw_h1, tw_h1, nI_eq ha hb] at h2
    exact h2
  · intro h
    rw [h]
theorem tw_uh {x : Nat → Int32} {f : Nat → Nat} {n q v : Nat} {y : Int32} (hy : y = tw_h v) (h : ∀ k, k < n → k ≠ q → x k = tw_h (f k)) : ∀ k, k < n → upd x q y k = tw_h (tk_st f q v k) := by
  intro k hk
  by_cases z : k = q
  · subst z
    rw [pk_us, tk_st_at, hy]
  · rw [pk_un z, tk_st_ne z]
    exact h k hk z
theorem tk_wr_all {n i : Nat} {pr : Nat → Nat} (hp : ∀ i, i < n → pr i ≤ i) : tk_wr n pr (n + 1) i = n := by
  unfold tk_wr
  rw [tk_cb_all (a := 0) n (Nat.zero_le _) (fun j _ hj => decide_eq_true (Or.inl (by have a := hp j hj; omega)))]
  show 0 + (n - 0) = n
  omega
theorem xw_b28 {post : SX → Prop} {J : Int32 → Int32 → (Nat → Int32) → (Nat → Int32) → (Nat → Int32) → (Nat → Int32) → (Nat → Int32) → (Nat → Int32) → (Nat → Int32) → (Nat → Int32) → (Nat → Int32) → (Nat → Int32) → (Nat → Int32) → (Nat → Int32) → (Nat → Int32) → (Nat → Int32) → Prop} {fr fo fh fb : Int32} {xs xe xz ho li fi mi hs sk ru rv ou ov sp : Nat → Int32} {t n i d : Nat} {s e pr z : Nat → Nat} (ht : t < 3) (hn : n ≤ 32) (hi : i < n) (hso : tk_so n s e)
    (hx : ∀ j, j < n → xe (32 * t + j) = nI (e j)) (inv : tk_h1 e pr z i d) (hsk : ∀ k, k < d → sk k = nI (z k))
    (hp : ∀ c, c ≤ d → (∀ j, tk_top z c ≤ j → j < i → e j < e i) → (0 < c → e i ≤ e (z (c - 1))) → wX_build_91 post J (nI t) (nI c) (nI i) (tw_h (tk_top z c)) (nI i) fr fo fh fb xs xe xz ho li fi mi hs sk ru rv ou ov sp) :
    ∀ c, c ≤ d → (∀ j, tk_top z c ≤ j → j < i → e j < e i) → ∀ f, c < f → wX_build_28 post J (nI t) (nI i) fr fo fh fb xs xe xz ho li fi mi hs sk ru rv ou ov sp f (nI c) := by
  have hd := inv.2.1
  intro c
  induction c with
  | zero =>
    intro hc h f hf
    obtain ⟨f, rfl⟩ : ∃ g, f = g + 1 := ⟨f - 1, by omega⟩
    have H := hp 0 hc h (fun y => absurd y (Nat.lt_irrefl 0))
    rw [show tk_top z 0 = 0 from rfl, tw_h0] at H
    have g0 : 0 ≤ 0 := Nat.le_refl 0
    simp (disch := omega) only [wX_build_28, wX_build_70, g0, forall_eq, nI_leI, nI_ltI, nI_eq, vp_in_nI, nI_clamp, nI_1, nI_add, tw_32, tw_32r, tw_p, sb_m1, tw_s1, tw_65, Nat.add_sub_cancel, tw_l0a, tw_l0b, tw_l0c, tw_l0d, tw_l0e, tw_l1a, tw_l1b, tw_l1c, tw_l1d, tw_l1e, tw_l2a, tw_l2b, tw_l2c, tw_l2d, tw_l2e, tw_l3a, tw_l3b, tw_l3c, tw_l3d, tw_l3e, tw_l4a, tw_l4b, tw_l4c, tw_l4d, tw_l4e, tw_l7a, tw_l7b, tw_l7c, tw_l7d, tw_l7e, tw_l31a, tw_l31b, tw_l31c, tw_l31d, tw_l31e, tw_l32a, tw_l32b, tw_l32c, tw_l32d, tw_l32e, tw_l63a, tw_l63b, tw_l63c, tw_l63d, tw_l63e, tw_l64a, tw_l64b, tw_l64c, tw_l64d, tw_l64e, true_implies, forall_const, not_true_eq_false, not_false_eq_true, false_implies, and_true, true_and, implies_true, and_self]
    exact H
  | succ c ih =>
    intro hc h f hf
    obtain ⟨f, rfl⟩ : ∃ g, f = g + 1 := ⟨f - 1, by omega⟩
    have g0 : ¬ c + 1 ≤ 0 := by omega
    have i1 := hsk c (by omega)
    have zc := (inv.2.2.2 c (by omega)).1
    have i2 := hx (z c) (by omega)
    have i3 := hx i hi
    have b1 := hso.1 (z c) (by omega)
    have b2 := hso.1 i hi
    by_cases y : e i ≤ e (z c)
    · have H := hp (c + 1) hc h (fun _ => y)
      rw [tk_top_S, tw_hS] at H
      simp (disch := omega) only [wX_build_28, wX_build_70, g0, i1, i2, i3, y, forall_eq, nI_leI, nI_ltI, nI_eq, vp_in_nI, nI_clamp, nI_1, nI_add, tw_32, tw_32r, tw_p, sb_m1, tw_s1, tw_65, Nat.add_sub_cancel, tw_l0a, tw_l0b, tw_l0c, tw_l0d, tw_l0e, tw_l1a, tw_l1b, tw_l1c, tw_l1d, tw_l1e, tw_l2a, tw_l2b, tw_l2c, tw_l2d, tw_l2e, tw_l3a, tw_l3b, tw_l3c, tw_l3d, tw_l3e, tw_l4a, tw_l4b, tw_l4c, tw_l4d, tw_l4e, tw_l7a, tw_l7b, tw_l7c, tw_l7d, tw_l7e, tw_l31a, tw_l31b, tw_l31c, tw_l31d, tw_l31e, tw_l32a, tw_l32b, tw_l32c, tw_l32d, tw_l32e, tw_l63a, tw_l63b, tw_l63c, tw_l63d, tw_l63e, tw_l64a, tw_l64b, tw_l64c, tw_l64d, tw_l64e, true_implies, forall_const, not_true_eq_false, not_false_eq_true, false_implies, and_true, true_and, implies_true, and_self]
      exact H
    · have H := ih (by omega) (tk_h1_pop inv hc h (by omega)) f (by omega)
      simp (disch := omega) only [wX_build_28, g0, i1, i2, i3, y, forall_eq, nI_leI, nI_ltI, nI_eq, vp_in_nI, nI_clamp, nI_1, nI_add, tw_32, tw_32r, tw_p, sb_m1, tw_s1, tw_65, Nat.add_sub_cancel, tw_l0a, tw_l0b, tw_l0c, tw_l0d, tw_l0e, tw_l1a, tw_l1b, tw_l1c, tw_l1d, tw_l1e, tw_l2a, tw_l2b, tw_l2c, tw_l2d, tw_l2e, tw_l3a, tw_l3b, tw_l3c, tw_l3d, tw_l3e, tw_l4a, tw_l4b, tw_l4c, tw_l4d, tw_l4e, tw_l7a, tw_l7b, tw_l7c, tw_l7d, tw_l7e, tw_l31a, tw_l31b, tw_l31c, tw_l31d, tw_l31e, tw_l32a, tw_l32b, tw_l32c, tw_l32d, tw_l32e, tw_l63a, tw_l63b, tw_l63c, tw_l63d, tw_l63e, tw_l64a, tw_l64b, tw_l64c, tw_l64d, tw_l64e, true_implies, forall_const, not_true_eq_false, not_false_eq_true, false_implies, and_true, true_and, implies_true, and_self]
      exact H
theorem xw_b18 {post : SX → Prop} {fr fo fh fb : Int32} {xs xe xz li fi mi hs ru rv ou ov sp : Nat → Int32} {t n : Nat} {s e : Nat → Nat} (ht : t < 3) (hn : n ≤ 32) (hso : tk_so n s e) (hz : xz t = nI n)
    (hx : ∀ j, j < n → xe (32 * t + j) = nI (e j))
    (hp : ∀ (pr : Nat → Nat) (ho sk : Nat → Int32), (∀ j, j < n → tk_nr e j (pr j)) → (∀ j, j < n → ho j = tw_h (pr j)) → ∃ n113 : Nat, wX_build_113 post (nI t) fr fo fh fb n113 0 (-1) xs xe xz ho li fi mi hs sk ru rv ou ov sp) :
    ∀ m i, i + m = n → ∀ (d : Nat) (pr z : Nat → Nat) (ho sk : Nat → Int32), tk_h1 e pr z i d → (∀ j, j < i → ho j = tw_h (pr j)) → (∀ k, k < d → sk k = nI (z k)) →
    ∀ f, m < f → wX_build_18 post (nI t) fr fo fh fb f (nI d) (nI i) xs xe xz ho li fi mi hs sk ru rv ou ov sp := by
  intro m
  induction m with
  | zero =>
    intro i hi d pr z ho sk inv h1 h2 f hf
    obtain ⟨f, rfl⟩ : ∃ g, f = g + 1 := ⟨f - 1, by omega⟩
    have e0 : i = n := by omega
    subst e0
    have g0 : i ≤ i := Nat.le_refl _
    simp (disch := omega) only [wX_build_18, g0, hz, forall_eq, nI_leI, nI_ltI, nI_eq, vp_in_nI, nI_clamp, nI_1, nI_add, tw_32, tw_32r, tw_p, sb_m1, tw_s1, tw_65, Nat.add_sub_cancel, tw_l0a, tw_l0b, tw_l0c, tw_l0d, tw_l0e, tw_l1a, tw_l1b, tw_l1c, tw_l1d, tw_l1e, tw_l2a, tw_l2b, tw_l2c, tw_l2d, tw_l2e, tw_l3a, tw_l3b, tw_l3c, tw_l3d, tw_l3e, tw_l4a, tw_l4b, tw_l4c, tw_l4d, tw_l4e, tw_l7a, tw_l7b, tw_l7c, tw_l7d, tw_l7e, tw_l31a, tw_l31b, tw_l31c, tw_l31d, tw_l31e, tw_l32a, tw_l32b, tw_l32c, tw_l32d, tw_l32e, tw_l63a, tw_l63b, tw_l63c, tw_l63d, tw_l63e, tw_l64a, tw_l64b, tw_l64c, tw_l64d, tw_l64e, true_implies, forall_const, not_true_eq_false, not_false_eq_true, false_implies, and_true, true_and, implies_true, and_self]
    exact hp pr ho sk inv.1 h1
  | succ m ih =>
    intro i hi d pr z ho sk inv h1 h2 f hf
    obtain ⟨f, rfl⟩ : ∃ g, f = g + 1 := ⟨f - 1, by omega⟩
    have g0 : ¬ n ≤ i := by omega
    have hd := inv.2.1
    simp (disch := omega) only [wX_build_18, g0, hz, forall_eq, nI_leI, nI_ltI, nI_eq, vp_in_nI, nI_clamp, nI_1, nI_add, tw_32, tw_32r, tw_p, sb_m1, tw_s1, tw_65, Nat.add_sub_cancel, tw_l0a, tw_l0b, tw_l0c, tw_l0d, tw_l0e, tw_l1a, tw_l1b, tw_l1c, tw_l1d, tw_l1e, tw_l2a, tw_l2b, tw_l2c, tw_l2d, tw_l2e, tw_l3a, tw_l3b, tw_l3c, tw_l3d, tw_l3e, tw_l4a, tw_l4b, tw_l4c, tw_l4d, tw_l4e, tw_l7a, tw_l7b, tw_l7c, tw_l7d, tw_l7e, tw_l31a, tw_l31b, tw_l31c, tw_l31d, tw_l31e, tw_l32a, tw_l32b, tw_l32c, tw_l32d, tw_l32e, tw_l63a, tw_l63b, tw_l63c, tw_l63d, tw_l63e, tw_l64a, tw_l64b, tw_l64c, tw_l64d, tw_l64e, true_implies, forall_const, not_true_eq_false, not_false_eq_true, false_implies, and_true, true_and, implies_true, and_self]
    refine ⟨d + 1, xw_b28 ht hn (by omega) hso hx inv h2 (fun c hc h3 h4 => ?_) d (Nat.le_refl _) (fun j y1 y2 => by rw [inv.2.2.1] at y1; omega) (d + 1) (by omega)⟩
    have H := ih (i + 1) (by omega) (c + 1) (tk_st pr i (tk_top z c)) (tk_st z c i) (upd ho i (tw_h (tk_top z c))) (upd sk c (nI i))
      (tk_h1_put inv hc h3 h4 (fun j hj => tk_st_ne (by omega)) tk_st_at (fun k hk => tk_st_ne (by omega)) tk_st_at)
      (tw_uh rfl (fun k hk hne => h1 k (by omega))) (tw_up (fun k hk hne => h2 k (by omega))) f (by omega)
    simp (disch := omega) only [wX_build_91, forall_eq, nI_leI, nI_ltI, nI_eq, vp_in_nI, nI_clamp, nI_1, nI_add, tw_32, tw_32r, tw_p, sb_m1, tw_s1, tw_65, Nat.add_sub_cancel, tw_l0a, tw_l0b, tw_l0c, tw_l0d, tw_l0e, tw_l1a, tw_l1b, tw_l1c, tw_l1d, tw_l1e, tw_l2a, tw_l2b, tw_l2c, tw_l2d, tw_l2e, tw_l3a, tw_l3b, tw_l3c, tw_l3d, tw_l3e, tw_l4a, tw_l4b, tw_l4c, tw_l4d, tw_l4e, tw_l7a, tw_l7b, tw_l7c, tw_l7d, tw_l7e, tw_l31a, tw_l31b, tw_l31c, tw_l31d, tw_l31e, tw_l32a, tw_l32b, tw_l32c, tw_l32d, tw_l32e, tw_l63a, tw_l63b, tw_l63c, tw_l63d, tw_l63e, tw_l64a, tw_l64b, tw_l64c, tw_l64d, tw_l64e, true_implies, forall_const, not_true_eq_false, not_false_eq_true, false_implies, and_true, true_and, implies_true, and_self]
    exact H
theorem xw_b140 {post : SX → Prop} {J : Int32 → Int32 → (Nat → Int32) → (Nat → Int32) → (Nat → Int32) → (Nat → Int32) → (Nat → Int32) → (Nat → Int32) → (Nat → Int32) → (Nat → Int32) → (Nat → Int32) → (Nat → Int32) → (Nat → Int32) → (Nat → Int32) → (Nat → Int32) → (Nat → Int32) → Prop} {fr fo fh fb : Int32} {xs xe xz ho fi mi hs sk ru rv ou ov sp : Nat → Int32} {t n g : Nat} {pr F M : Nat → Nat} (ht : t < 3) (hn : n ≤ 32) (hg : g ≤ n) (hz : xz t = nI n)
    (hpr : ∀ i, i < n → pr i ≤ i) (hho : ∀ j, j < n → ho j = tw_h (pr j)) (hfi : fi g = nI (F g))
    (hp : ∀ (w : Nat) (L : Nat → Nat) (li : Nat → Int32), tk_w3 n pr F M L g n w → (∀ p, p < w → li p = nI (L p)) → J (nI w) (nI g) xs xe xz ho li fi (upd mi g (nI (w - F g))) hs sk ru rv ou ov sp) :
    ∀ m i, i + m = n → ∀ (w : Nat) (L : Nat → Nat) (li : Nat → Int32), tk_w3 n pr F M L g i w → (∀ p, p < w → li p = nI (L p)) →
    ∀ f, m < f → wX_build_140 post J (nI t) (tw_h g) fr fo fh fb f (nI w) (nI i) xs xe xz ho li fi mi hs sk ru rv ou ov sp := by
  intro m
  induction m with
  | zero =>
    intro i hi w L li h3 h1 f hf
    obtain ⟨f, rfl⟩ : ∃ g, f = g + 1 := ⟨f - 1, by omega⟩
    have e0 : i = n := by omega
    subst e0
    have g0 : i ≤ i := Nat.le_refl _
    have g1 := h3.2.1
    simp (disch := omega) only [wX_build_140, g0, hz, tw_h1, hfi, pk_sub, forall_eq, nI_leI, nI_ltI, nI_eq, vp_in_nI, nI_clamp, nI_1, nI_add, tw_32, tw_32r, tw_p, sb_m1, tw_s1, tw_65, Nat.add_sub_cancel, tw_l0a, tw_l0b, tw_l0c, tw_l0d, tw_l0e, tw_l1a, tw_l1b, tw_l1c, tw_l1d, tw_l1e, tw_l2a, tw_l2b, tw_l2c, tw_l2d, tw_l2e, tw_l3a, tw_l3b, tw_l3c, tw_l3d, tw_l3e, tw_l4a, tw_l4b, tw_l4c, tw_l4d, tw_l4e, tw_l7a, tw_l7b, tw_l7c, tw_l7d, tw_l7e, tw_l31a, tw_l31b, tw_l31c, tw_l31d, tw_l31e, tw_l32a, tw_l32b, tw_l32c, tw_l32d, tw_l32e, tw_l63a, tw_l63b, tw_l63c, tw_l63d, tw_l63e, tw_l64a, tw_l64b, tw_l64c, tw_l64d, tw_l64e, true_implies, forall_const, not_true_eq_false, not_false_eq_true, false_implies, and_true, true_and, implies_true, and_self]
    exact hp w L li h3 h1
  | succ m ih =>
    intro i hi w L li h3 h1 f hf
    obtain ⟨f, rfl⟩ : ∃ g, f = g + 1 := ⟨f - 1, by omega⟩
    have g0 : ¬ n ≤ i := by omega
    have i1 := hho i (by omega)
    have b1 := hpr i (by omega)
    by_cases y : pr i = g
    · have b2 := tk_wr_lt (n := n) (by omega) y
      have b3 := h3.1.1
      have H := ih (i + 1) (by omega) (w + 1) (tk_st L w i) (upd li w (nI i)) (tk_w3_t h3 (by omega) y (fun p hp => tk_st_ne (by omega)) tk_st_at) (tw_up (fun k hk hne => h1 k (by omega))) f (by omega)
      simp (disch := omega) only [wX_build_140, g0, hz, i1, tw_heq, eq_true y, forall_eq, nI_leI, nI_ltI, nI_eq, vp_in_nI, nI_clamp, nI_1, nI_add, tw_32, tw_32r, tw_p, sb_m1, tw_s1, tw_65, Nat.add_sub_cancel, tw_l0a, tw_l0b, tw_l0c, tw_l0d, tw_l0e, tw_l1a, tw_l1b, tw_l1c, tw_l1d, tw_l1e, tw_l2a, tw_l2b, tw_l2c, tw_l2d, tw_l2e, tw_l3a, tw_l3b, tw_l3c, tw_l3d, tw_l3e, tw_l4a, tw_l4b, tw_l4c, tw_l4d, tw_l4e, tw_l7a, tw_l7b, tw_l7c, tw_l7d, tw_l7e, tw_l31a, tw_l31b, tw_l31c, tw_l31d, tw_l31e, tw_l32a, tw_l32b, tw_l32c, tw_l32d, tw_l32e, tw_l63a, tw_l63b, tw_l63c, tw_l63d, tw_l63e, tw_l64a, tw_l64b, tw_l64c, tw_l64d, tw_l64e, true_implies, forall_const, not_true_eq_false, not_false_eq_true, false_implies, and_true, true_and, implies_true, and_self]
      exact H
    · have H := ih (i + 1) (by omega) w L li (tk_w3_f h3 y) h1 f (by omega)
      simp (disch := omega) only [wX_build_140, g0, hz, i1, tw_heq, y, forall_eq, nI_leI, nI_ltI, nI_eq, vp_in_nI, nI_clamp, nI_1, nI_add, tw_32, tw_32r, tw_p, sb_m1, tw_s1, tw_65, Nat.add_sub_cancel, tw_l0a, tw_l0b, tw_l0c, tw_l0d, tw_l0e, tw_l1a, tw_l1b, tw_l1c, tw_l1d, tw_l1e, tw_l2a, tw_l2b, tw_l2c, tw_l2d, tw_l2e, tw_l3a, tw_l3b, tw_l3c, tw_l3d, tw_l3e, tw_l4a, tw_l4b, tw_l4c, tw_l4d, tw_l4e, tw_l7a, tw_l7b, tw_l7c, tw_l7d, tw_l7e, tw_l31a, tw_l31b, tw_l31c, tw_l31d, tw_l31e, tw_l32a, tw_l32b, tw_l32c, tw_l32d, tw_l32e, tw_l63a, tw_l63b, tw_l63c, tw_l63d, tw_l63e, tw_l64a, tw_l64b, tw_l64c, tw_l64d, tw_l64e, true_implies, forall_const, not_true_eq_false, not_false_eq_true, false_implies, and_true, true_and, implies_true, and_self]
      exact H
theorem xw_b113 {post : SX → Prop} {fr fo fh fb : Int32} {xs xe xz ho hs sk ru rv ou ov sp : Nat → Int32} {t n : Nat} {e pr : Nat → Nat} (ht : t < 3) (hn : n ≤ 32) (hz : xz t = nI n)
    (hnr : ∀ j, j < n → tk_nr e j (pr j)) (hho : ∀ j, j < n → ho j = tw_h (pr j))
    (hp : ∀ li fi mi : Nat → Int32, tk_bd n e li fi mi → post (fr, fo, fh, fb, xs, xe, xz, ho, li, fi, mi, hs, sk, ru, rv, ou, ov, sp)) :
    ∀ m g, g + m = n + 1 → ∀ (w : Nat) (F M L : Nat → Nat) (li fi mi : Nat → Int32), tk_w2 n pr F M L g g w → (∀ h, h < g → fi h = nI (F h)) → (∀ h, h < g → mi h = nI (M h)) → (∀ p, p < w → li p = nI (L p)) →
    ∀ f, m < f → wX_build_113 post (nI t) fr fo fh fb f (nI w) (tw_h g) xs xe xz ho li fi mi hs sk ru rv ou ov sp := by
  have hpr : ∀ i, i < n → pr i ≤ i := fun i hi => (hnr i hi).1
  intro m
  induction m with
  | zero =>
    intro g hm w F M L li fi mi h2 h3 h4 h5 f hf
    obtain ⟨f, rfl⟩ : ∃ g, f = g + 1 := ⟨f - 1, by omega⟩
    have e0 : g = n + 1 := by omega
    subst e0
    have g0 : n < n + 1 := by omega
    have ew : w = n := by rw [h2.1, tk_wr_all hpr]
    simp (disch := omega) only [wX_build_113, hz, tw_hle, g0, forall_eq, nI_leI, nI_ltI, nI_eq, vp_in_nI, nI_clamp, nI_1, nI_add, tw_32, tw_32r, tw_p, sb_m1, tw_s1, tw_65, Nat.add_sub_cancel, tw_l0a, tw_l0b, tw_l0c, tw_l0d, tw_l0e, tw_l1a, tw_l1b, tw_l1c, tw_l1d, tw_l1e, tw_l2a, tw_l2b, tw_l2c, tw_l2d, tw_l2e, tw_l3a, tw_l3b, tw_l3c, tw_l3d, tw_l3e, tw_l4a, tw_l4b, tw_l4c, tw_l4d, tw_l4e, tw_l7a, tw_l7b, tw_l7c, tw_l7d, tw_l7e, tw_l31a, tw_l31b, tw_l31c, tw_l31d, tw_l31e, tw_l32a, tw_l32b, tw_l32c, tw_l32d, tw_l32e, tw_l63a, tw_l63b, tw_l63c, tw_l63d, tw_l63e, tw_l64a, tw_l64b, tw_l64c, tw_l64d, tw_l64e, true_implies, forall_const, not_true_eq_false, not_false_eq_true, false_implies, and_true, true_and, implies_true, and_self]
    exact hp li fi mi ⟨pr, F, M, L, fun k hk => ⟨h3 k (by omega), h4 k (by omega)⟩, fun p hp => h5 p (by omega), tk_w2_pd hnr h2⟩
  | succ m ih =>
    intro g hm w F M L li fi mi h2 h3 h4 h5 f hf
    obtain ⟨f, rfl⟩ : ∃ g, f = g + 1 := ⟨f - 1, by omega⟩
    have g0 : ¬ n < g := by omega
    simp (disch := omega) only [wX_build_113, hz, tw_hle, g0, tw_h1, forall_eq, nI_leI, nI_ltI, nI_eq, vp_in_nI, nI_clamp, nI_1, nI_add, tw_32, tw_32r, tw_p, sb_m1, tw_s1, tw_65, Nat.add_sub_cancel, tw_l0a, tw_l0b, tw_l0c, tw_l0d, tw_l0e, tw_l1a, tw_l1b, tw_l1c, tw_l1d, tw_l1e, tw_l2a, tw_l2b, tw_l2c, tw_l2d, tw_l2e, tw_l3a, tw_l3b, tw_l3c, tw_l3d, tw_l3e, tw_l4a, tw_l4b, tw_l4c, tw_l4d, tw_l4e, tw_l7a, tw_l7b, tw_l7c, tw_l7d, tw_l7e, tw_l31a, tw_l31b, tw_l31c, tw_l31d, tw_l31e, tw_l32a, tw_l32b, tw_l32c, tw_l32d, tw_l32e, tw_l63a, tw_l63b, tw_l63c, tw_l63d, tw_l63e, tw_l64a, tw_l64b, tw_l64c, tw_l64d, tw_l64e, true_implies, forall_const, not_true_eq_false, not_false_eq_true, false_implies, and_true, true_and, implies_true, and_self]
    refine ⟨n + 1, xw_b140 (F := tk_st F g w) (M := M) ht hn (by omega) hz hpr hho (by rw [pk_us, tk_st_at]) (fun w' L' li' k3 k1 => ?_) (n - g) g (by omega) w L li (tk_w3_beg hpr h2 (fun k hk => tk_st_ne (by omega)) tk_st_at) h5 (n + 1) (by omega)⟩
    have H := ih (g + 1) (by omega) w' (tk_st F g w) (tk_st M g (w' - tk_st F g w g)) L' li' (upd fi g (nI w)) (upd mi g (nI (w' - tk_st F g w g)))
      (tk_w3_end hpr k3 (fun k hk => tk_st_ne (by omega)) tk_st_at) (tw_up (fun k hk hne => h3 k (by omega))) (tw_up (fun k hk hne => h4 k (by omega))) k1 f (by omega)
    rw [tw_hS] at H
    exact H
theorem xw_build {post : SX → Prop} {fr fo fh fb : Int32} {xs xe xz ho li fi mi hs sk ru rv ou ov sp : Nat → Int32} {N : Nat → Nat} {S E : Nat → Nat → Nat} {t : Nat} (ok : tk_ok N S E) (R : tk_rx N S E xs xe xz) (ht : t < 3) (B : fb = nI t → tk_bd (N t) (E t) li fi mi)
    (hp : ∀ ho li fi mi sk : Nat → Int32, tk_bd (N t) (E t) li fi mi → post (fr, fo, fh, nI t, xs, xe, xz, ho, li, fi, mi, hs, sk, ru, rv, ou, ov, sp)) : wpX_build post (fr, fo, fh, fb, xs, xe, xz, ho, li, fi, mi, hs, sk, ru, rv, ou, ov, sp) (nI t) := by
  unfold wpX_build
  by_cases y : fb = nI t
  · refine br_t y ?_
    have H := hp ho li fi mi sk (B y)
    rw [← y] at H
    exact H
  · refine br_f y ⟨N t + 1, ?_⟩
    have H := xw_b18 (post := post) (fr := fr) (fo := fo) (fh := fh) (fb := nI t) (xs := xs) (li := li) (fi := fi) (mi := mi) (hs := hs) (ru := ru) (rv := rv) (ou := ou) (ov := ov) (sp := sp) ht (ok t ht).1 (ok t ht).2 (R.1 t ht) (R.2.2 t ht) (fun pr ho sk hnr hho => by
      refine ⟨N t + 2, ?_⟩
      have H2 := xw_b113 (post := post) (fr := fr) (fo := fo) (fh := fh) (fb := nI t) (xs := xs) (xe := xe) (hs := hs) (sk := sk) (ru := ru) (rv := rv) (ou := ou) (ov := ov) (sp := sp) ht (ok t ht).1 (R.1 t ht) hnr hho (fun li fi mi h => hp ho li fi mi sk h) (N t + 1) 0 (by omega) 0 (fun _ => 0) (fun _ => 0) (fun _ => 0) li fi mi tk_w2_0 (fun k hk => absurd hk (Nat.not_lt_zero k)) (fun k hk => absurd hk (Nat.not_lt_zero k)) (fun k hk => absurd hk (Nat.not_lt_zero k)) (N t + 2) (by omega)
      rw [tw_h0] at H2
      exact H2) (N t) 0 (by omega) 0 (fun _ => 0) (fun _ => 0) ho sk tk_h1_0 (fun k hk => absurd hk (Nat.not_lt_zero k)) (fun k hk => absurd hk (Nat.not_lt_zero k)) (N t + 1) (by omega)
    exact H
end
section
/-! X's search -/
theorem tw_half {c : Nat} (h : c < 2 ^ 31) : nI c >>> ((1 : Int32) &&& 31) = nI (c / 2) := pk_shrN h _ 1 (by decide)
theorem tw_pw {x y st : Nat} (h : y * 2 ^ st ≤ 32) (hx : x * 2 ≤ y) : x * 2 ^ (st + 1) ≤ 32 := by
  have e : x * 2 ^ (st + 1) = x * 2 * 2 ^ st := by rw [Nat.pow_succ, Nat.mul_comm (2 ^ st) 2, Nat.mul_assoc]
  rw [e]
  exact Nat.le_trans (Nat.mul_le_mul_right _ hx) h
theorem xw_fb {post : Int32 → Prop} {fr fo fh fb : Int32} {xs xe xz ho li fi mi hs sk ru rv ou ov sp : Nat → Int32} {t n g a : Nat} {s e pr F M L : Nat → Nat} (ht : t < 3) (hn : n ≤ 32) (hg : g ≤ n) (ha : a < 65) (hso : tk_so n s e) (hx : ∀ j, j < n → xe (32 * t + j) = nI (e j)) (hd : tk_pd n e pr F M L) (hl : ∀ p, p < n → li p = nI (L p))
    (hp : ∀ lo, F g ≤ lo → lo ≤ F g + M g → (∀ q, F g ≤ q → q < lo → e (L q) ≤ a) → (∀ q, lo ≤ q → q < F g + M g → a < e (L q)) → post (nI lo)) :
    ∀ m st, st + m = 7 → ∀ lo hi, F g ≤ lo → lo ≤ hi → hi ≤ F g + M g → (∀ q, F g ≤ q → q < lo → e (L q) ≤ a) → (∀ q, hi ≤ q → q < F g + M g → a < e (L q)) → (hi - lo) * 2 ^ st ≤ 32 →
    ∀ f, m < f → wX_firstBehind_26 post (nI t) (nI a) fr fo fh fb xs xe xz ho li fi mi hs sk ru rv ou ov sp f (nI lo) (nI hi) (nI st) := by
  have hfm := hd.2.1 g hg
  intro m
  induction m with
  | zero =>
    intro st hm lo hi h1 h2 h3 h4 h5 h6 f hf
    obtain ⟨f, rfl⟩ : ∃ g, f = g + 1 := ⟨f - 1, by omega⟩
    have e0 : st = 7 := by omega
    subst e0
    have g0 : 7 ≤ 7 := Nat.le_refl 7
    have e1 : hi = lo := by omega
    subst e1
    simp (disch := omega) only [wX_firstBehind_26, g0, forall_eq, nI_leI, nI_ltI, nI_eq, vp_in_nI, nI_clamp, nI_1, nI_add, tw_32, tw_32r, tw_p, sb_m1, tw_s1, tw_65, Nat.add_sub_cancel, tw_l0a, tw_l0b, tw_l0c, tw_l0d, tw_l0e, tw_l1a, tw_l1b, tw_l1c, tw_l1d, tw_l1e, tw_l2a, tw_l2b, tw_l2c, tw_l2d, tw_l2e, tw_l3a, tw_l3b, tw_l3c, tw_l3d, tw_l3e, tw_l4a, tw_l4b, tw_l4c, tw_l4d, tw_l4e, tw_l7a, tw_l7b, tw_l7c, tw_l7d, tw_l7e, tw_l31a, tw_l31b, tw_l31c, tw_l31d, tw_l31e, tw_l32a, tw_l32b, tw_l32c, tw_l32d, tw_l32e, tw_l63a, tw_l63b, tw_l63c, tw_l63d, tw_l63e, tw_l64a, tw_l64b, tw_l64c, tw_l64d, tw_l64e, true_implies, forall_const, not_true_eq_false, not_false_eq_true, false_implies, and_true, true_and, implies_true, and_self]
    exact hp hi h1 h3 h4 h5
  | succ m ih =>
    intro st hm lo hi h1 h2 h3 h4 h5 h6 f hf
    obtain ⟨f, rfl⟩ : ∃ g, f = g + 1 := ⟨f - 1, by omega⟩
    have g0 : ¬ 7 ≤ st := by omega
    by_cases y : hi ≤ lo
    · have e1 : hi = lo := by omega
      subst e1
      simp (disch := omega) only [wX_firstBehind_26, g0, y, forall_eq, nI_leI, nI_ltI, nI_eq, vp_in_nI, nI_clamp, nI_1, nI_add, tw_32, tw_32r, tw_p, sb_m1, tw_s1, tw_65, Nat.add_sub_cancel, tw_l0a, tw_l0b, tw_l0c, tw_l0d, tw_l0e, tw_l1a, tw_l1b, tw_l1c, tw_l1d, tw_l1e, tw_l2a, tw_l2b, tw_l2c, tw_l2d, tw_l2e, tw_l3a, tw_l3b, tw_l3c, tw_l3d, tw_l3e, tw_l4a, tw_l4b, tw_l4c, tw_l4d, tw_l4e, tw_l7a, tw_l7b, tw_l7c, tw_l7d, tw_l7e, tw_l31a, tw_l31b, tw_l31c, tw_l31d, tw_l31e, tw_l32a, tw_l32b, tw_l32c, tw_l32d, tw_l32e, tw_l63a, tw_l63b, tw_l63c, tw_l63d, tw_l63e, tw_l64a, tw_l64b, tw_l64c, tw_l64d, tw_l64e, true_implies, forall_const, not_true_eq_false, not_false_eq_true, false_implies, and_true, true_and, implies_true, and_self]
      exact hp hi h1 h3 h4 h5
    · have c1 := hd.2.2.1 g hg ((lo + hi) / 2) (by omega) (by omega)
      have i1 := hl ((lo + hi) / 2) (by omega)
      have i2 := hx (L ((lo + hi) / 2)) c1.1
      have b1 := hso.1 (L ((lo + hi) / 2)) c1.1
      by_cases w : e (L ((lo + hi) / 2)) ≤ a
      · have H := ih (st + 1) (by omega) ((lo + hi) / 2 + 1) hi (by omega) (by omega) h3 (fun q q1 q2 => by
          by_cases v : q = (lo + hi) / 2
          · rw [v]; exact w
          · have c2 := tk_pd_e hd hg q1 (show q < (lo + hi) / 2 by omega) (by omega)
            omega) h5 (tw_pw h6 (by omega)) f (by omega)
        simp (disch := omega) only [wX_firstBehind_26, g0, y, tw_half, i1, i2, w, forall_eq, nI_leI, nI_ltI, nI_eq, vp_in_nI, nI_clamp, nI_1, nI_add, tw_32, tw_32r, tw_p, sb_m1, tw_s1, tw_65, Nat.add_sub_cancel, tw_l0a, tw_l0b, tw_l0c, tw_l0d, tw_l0e, tw_l1a, tw_l1b, tw_l1c, tw_l1d, tw_l1e, tw_l2a, tw_l2b, tw_l2c, tw_l2d, tw_l2e, tw_l3a, tw_l3b, tw_l3c, tw_l3d, tw_l3e, tw_l4a, tw_l4b, tw_l4c, tw_l4d, tw_l4e, tw_l7a, tw_l7b, tw_l7c, tw_l7d, tw_l7e, tw_l31a, tw_l31b, tw_l31c, tw_l31d, tw_l31e, tw_l32a, tw_l32b, tw_l32c, tw_l32d, tw_l32e, tw_l63a, tw_l63b, tw_l63c, tw_l63d, tw_l63e, tw_l64a, tw_l64b, tw_l64c, tw_l64d, tw_l64e, true_implies, forall_const, not_true_eq_false, not_false_eq_true, false_implies, and_true, true_and, implies_true, and_self]
        exact H
      · have H := ih (st + 1) (by omega) lo ((lo + hi) / 2) h1 (by omega) (by omega) h4 (fun q q1 q2 => by
          by_cases v : q = (lo + hi) / 2
          · rw [v]; omega
          · have c2 := tk_pd_e hd hg (show F g ≤ (lo + hi) / 2 by omega) (show (lo + hi) / 2 < q by omega) q2
            omega) (tw_pw h6 (by omega)) f (by omega)
        simp (disch := omega) only [wX_firstBehind_26, g0, y, tw_half, i1, i2, w, forall_eq, nI_leI, nI_ltI, nI_eq, vp_in_nI, nI_clamp, nI_1, nI_add, tw_32, tw_32r, tw_p, sb_m1, tw_s1, tw_65, Nat.add_sub_cancel, tw_l0a, tw_l0b, tw_l0c, tw_l0d, tw_l0e, tw_l1a, tw_l1b, tw_l1c, tw_l1d, tw_l1e, tw_l2a, tw_l2b, tw_l2c, tw_l2d, tw_l2e, tw_l3a, tw_l3b, tw_l3c, tw_l3d, tw_l3e, tw_l4a, tw_l4b, tw_l4c, tw_l4d, tw_l4e, tw_l7a, tw_l7b, tw_l7c, tw_l7d, tw_l7e, tw_l31a, tw_l31b, tw_l31c, tw_l31d, tw_l31e, tw_l32a, tw_l32b, tw_l32c, tw_l32d, tw_l32e, tw_l63a, tw_l63b, tw_l63c, tw_l63d, tw_l63e, tw_l64a, tw_l64b, tw_l64c, tw_l64d, tw_l64e, true_implies, forall_const, not_true_eq_false, not_false_eq_true, false_implies, and_true, true_and, implies_true, and_self]
        exact H
theorem xw_first {post : Int32 → Prop} {fr fo fh fb : Int32} {xs xe xz ho li fi mi hs sk ru rv ou ov sp : Nat → Int32} {t n g a : Nat} {s e pr F M L : Nat → Nat} (ht : t < 3) (hn : n ≤ 32) (hg : g ≤ n) (ha : a < 65) (hso : tk_so n s e) (hx : ∀ j, j < n → xe (32 * t + j) = nI (e j)) (hd : tk_pd n e pr F M L) (hl : ∀ p, p < n → li p = nI (L p)) (hf : fi g = nI (F g)) (hm : mi g = nI (M g))
    (hp : ∀ lo, F g ≤ lo → lo ≤ F g + M g → (∀ q, F g ≤ q → q < lo → e (L q) ≤ a) → (∀ q, lo ≤ q → q < F g + M g → a < e (L q)) → post (nI lo)) :
    wpX_firstBehind post (fr, fo, fh, fb, xs, xe, xz, ho, li, fi, mi, hs, sk, ru, rv, ou, ov, sp) (nI t) (tw_h g) (nI a) := by
  have hfm := hd.2.1 g hg
  simp (disch := omega) only [wpX_firstBehind, tw_h1, hf, hm, forall_eq, nI_leI, nI_ltI, nI_eq, vp_in_nI, nI_clamp, nI_1, nI_add, tw_32, tw_32r, tw_p, sb_m1, tw_s1, tw_65, Nat.add_sub_cancel, tw_l0a, tw_l0b, tw_l0c, tw_l0d, tw_l0e, tw_l1a, tw_l1b, tw_l1c, tw_l1d, tw_l1e, tw_l2a, tw_l2b, tw_l2c, tw_l2d, tw_l2e, tw_l3a, tw_l3b, tw_l3c, tw_l3d, tw_l3e, tw_l4a, tw_l4b, tw_l4c, tw_l4d, tw_l4e, tw_l7a, tw_l7b, tw_l7c, tw_l7d, tw_l7e, tw_l31a, tw_l31b, tw_l31c, tw_l31d, tw_l31e, tw_l32a, tw_l32b, tw_l32c, tw_l32d, tw_l32e, tw_l63a, tw_l63b, tw_l63c, tw_l63d, tw_l63e, tw_l64a, tw_l64b, tw_l64c, tw_l64d, tw_l64e, true_implies, forall_const, not_true_eq_false, not_false_eq_true, false_implies, and_true, true_and, implies_true, and_self]
  exact ⟨8, xw_fb ht hn hg ha hso hx hd hl hp 7 0 rfl (F g) (F g + M g) (Nat.le_refl _) (by omega) (Nat.le_refl _) (fun q q1 q2 => by omega) (fun q q1 q2 => by omega) (by omega) 8 (by omega)⟩
theorem xw_pu {post : SX → Prop} {fr fo fb : Int32} {xs xe xz ho li fi mi sk ru rv ou ov sp : Nat → Int32} {c i : Nat} {H : Nat → Nat} (hc : c < 32) (hi : i < 32) (hH : ∀ k, k < c → H k < 32) :
    ∀ k, k ≤ c → ∀ hs : Nat → Int32, (∀ j, j < k → hs j = nI (H j)) → post (fr, fo, nI (c + 1), fb, xs, xe, xz, ho, li, fi, mi, tk_iw hs 0 (tk_ip H (fun _ => 0) i 0 k) k (nI i), sk, ru, rv, ou, ov, sp) →
    ∀ f, k < f → wX_putHit_5 post (nI i) fr fo (nI c) fb f (nI k) xs xe xz ho li fi mi hs sk ru rv ou ov sp := by
  intro k
  induction k with
  | zero =>
    intro hk hs hx hp f hf
    obtain ⟨f, rfl⟩ : ∃ g, f = g + 1 := ⟨f - 1, by omega⟩
    have g0 : 0 ≤ 0 := Nat.le_refl _
    have e1 : upd hs 0 (nI i) = tk_iw hs 0 0 0 (nI i) := tk_iw_0 (l := 0) (k := 0)
    simp (disch := omega) only [wX_putHit_5, wX_putHit_41, g0, e1, forall_eq, nI_leI, nI_ltI, nI_eq, vp_in_nI, nI_clamp, nI_1, nI_add, tw_32, tw_32r, tw_p, sb_m1, tw_s1, tw_65, Nat.add_sub_cancel, tw_l0a, tw_l0b, tw_l0c, tw_l0d, tw_l0e, tw_l1a, tw_l1b, tw_l1c, tw_l1d, tw_l1e, tw_l2a, tw_l2b, tw_l2c, tw_l2d, tw_l2e, tw_l3a, tw_l3b, tw_l3c, tw_l3d, tw_l3e, tw_l4a, tw_l4b, tw_l4c, tw_l4d, tw_l4e, tw_l7a, tw_l7b, tw_l7c, tw_l7d, tw_l7e, tw_l31a, tw_l31b, tw_l31c, tw_l31d, tw_l31e, tw_l32a, tw_l32b, tw_l32c, tw_l32d, tw_l32e, tw_l63a, tw_l63b, tw_l63c, tw_l63d, tw_l63e, tw_l64a, tw_l64b, tw_l64c, tw_l64d, tw_l64e, true_implies, forall_const, not_true_eq_false, not_false_eq_true, false_implies, and_true, true_and, implies_true, and_self]
    exact hp
  | succ k ih =>
    intro hk hs hx hp f hf
    obtain ⟨f, rfl⟩ : ∃ g, f = g + 1 := ⟨f - 1, by omega⟩
    have i1 := hx k (by omega)
    have b1 := hH k (by omega)
    have g0 : ¬ k + 1 ≤ 0 := by omega
    by_cases z : i < H k
    · rw [tk_ip_t (Or.inl z)] at hp
      have q := tk_ip_le H (fun _ => 0) i 0 k
      have e1 : tk_iw (upd hs (k + 1) (nI (H k))) 0 (tk_ip H (fun _ => 0) i 0 k) k (nI i) = tk_iw hs 0 (tk_ip H (fun _ => 0) i 0 k) (k + 1) (nI i) := by
        rw [← i1]
        have e := tk_iw_S (x := hs) (l := 0) (v := nI i) q
        rw [Nat.zero_add] at e
        exact e
      have H2 := ih (by omega) (upd hs (k + 1) (nI (H k))) (fun j hj => by rw [pk_un (by omega)]; exact hx j (by omega)) (by rw [e1]; exact hp) f (by omega)
      have z1 : ¬ H k ≤ i := by omega
      simp (disch := omega) only [wX_putHit_5, i1, g0, z1, forall_eq, nI_leI, nI_ltI, nI_eq, vp_in_nI, nI_clamp, nI_1, nI_add, tw_32, tw_32r, tw_p, sb_m1, tw_s1, tw_65, Nat.add_sub_cancel, tw_l0a, tw_l0b, tw_l0c, tw_l0d, tw_l0e, tw_l1a, tw_l1b, tw_l1c, tw_l1d, tw_l1e, tw_l2a, tw_l2b, tw_l2c, tw_l2d, tw_l2e, tw_l3a, tw_l3b, tw_l3c, tw_l3d, tw_l3e, tw_l4a, tw_l4b, tw_l4c, tw_l4d, tw_l4e, tw_l7a, tw_l7b, tw_l7c, tw_l7d, tw_l7e, tw_l31a, tw_l31b, tw_l31c, tw_l31d, tw_l31e, tw_l32a, tw_l32b, tw_l32c, tw_l32d, tw_l32e, tw_l63a, tw_l63b, tw_l63c, tw_l63d, tw_l63e, tw_l64a, tw_l64b, tw_l64c, tw_l64d, tw_l64e, true_implies, forall_const, not_true_eq_false, not_false_eq_true, false_implies, and_true, true_and, implies_true, and_self]
      exact H2
    · rw [tk_ip_f (fun y => by
        rcases y with y | ⟨_, y⟩
        · exact z y
        · exact Nat.lt_irrefl 0 y)] at hp
      have e1 : upd hs (k + 1) (nI i) = tk_iw hs 0 (k + 1) (k + 1) (nI i) := by
        have e := tk_iw_0 (x := hs) (l := 0) (k := k + 1) (v := nI i)
        rw [Nat.zero_add] at e
        exact e
      have z1 : H k ≤ i := by omega
      simp (disch := omega) only [wX_putHit_5, wX_putHit_41, i1, g0, z1, e1, forall_eq, nI_leI, nI_ltI, nI_eq, vp_in_nI, nI_clamp, nI_1, nI_add, tw_32, tw_32r, tw_p, sb_m1, tw_s1, tw_65, Nat.add_sub_cancel, tw_l0a, tw_l0b, tw_l0c, tw_l0d, tw_l0e, tw_l1a, tw_l1b, tw_l1c, tw_l1d, tw_l1e, tw_l2a, tw_l2b, tw_l2c, tw_l2d, tw_l2e, tw_l3a, tw_l3b, tw_l3c, tw_l3d, tw_l3e, tw_l4a, tw_l4b, tw_l4c, tw_l4d, tw_l4e, tw_l7a, tw_l7b, tw_l7c, tw_l7d, tw_l7e, tw_l31a, tw_l31b, tw_l31c, tw_l31d, tw_l31e, tw_l32a, tw_l32b, tw_l32c, tw_l32d, tw_l32e, tw_l63a, tw_l63b, tw_l63c, tw_l63d, tw_l63e, tw_l64a, tw_l64b, tw_l64c, tw_l64d, tw_l64e, true_implies, forall_const, not_true_eq_false, not_false_eq_true, false_implies, and_true, true_and, implies_true, and_self]
      exact hp
theorem xw_put {post : SX → Prop} {fr fo fb : Int32} {xs xe xz ho li fi mi hs sk ru rv ou ov sp : Nat → Int32} {c n i : Nat} {H : Nat → Nat} {fd : Nat → Bool} (en : tk_en c H n fd) (hn : n ≤ 32) (hi : i < n) (hnew : ¬ fd i = true) (hh : ∀ k, k < c → hs k = nI (H k))
    (hp : ∀ (H' : Nat → Nat) (hs' : Nat → Int32), tk_en (c + 1) H' n (tk_ad fd i) → (∀ k, k < c + 1 → hs' k = nI (H' k)) → post (fr, fo, nI (c + 1), fb, xs, xe, xz, ho, li, fi, mi, hs', sk, ru, rv, ou, ov, sp)) : wpX_putHit post (fr, fo, nI c, fb, xs, xe, xz, ho, li, fi, mi, hs, sk, ru, rv, ou, ov, sp) (nI i) := by
  have hc : c < n := by
    rw [← tk_en_n en]
    exact tk_cb_ltn hi hnew
  have q1 := tk_ip_le H (fun _ => 0) i 0 c
  have q2 := tk_ip_hi H (fun _ => 0) i 0 c
  have q3 := tk_ip_lo H (fun _ => 0) i 0 c
  have lo : ∀ k, k < tk_ip H (fun _ => 0) i 0 c → H k < i := by
    intro k hk
    have a1 : ¬ i < H (tk_ip H (fun _ => 0) i 0 c - 1) := fun y => q3 (by omega) (Or.inl y)
    have a2 : H k ≤ H (tk_ip H (fun _ => 0) i 0 c - 1) := by
      by_cases y : k = tk_ip H (fun _ => 0) i 0 c - 1
      · rw [← y]; exact Nat.le_refl _
      · have a := en.2.1 k (tk_ip H (fun _ => 0) i 0 c - 1) (by omega) (by omega)
        omega
    have a3 : H k ≠ i := by
      intro y
      have a := en.1 k (by omega)
      rw [y] at a
      exact hnew a.2
    omega
  have hi2 : ∀ k, tk_ip H (fun _ => 0) i 0 c ≤ k → k < c → i < H k := by
    intro k h1 h2
    rcases q2 k h1 h2 with y | ⟨_, y⟩
    · exact y
    · exact absurd y (Nat.lt_irrefl 0)
  have K := xw_pu (post := post) (fr := fr) (fo := fo) (fb := fb) (xs := xs) (xe := xe) (xz := xz) (ho := ho) (li := li) (fi := fi) (mi := mi) (sk := sk) (ru := ru) (rv := rv) (ou := ou) (ov := ov) (sp := sp) (H := H) (c := c) (i := i) (by omega) (by omega) (fun k hk => by have a := en.1 k hk; omega) c (Nat.le_refl _) hs hh
    (hp (tk_in H (tk_ip H (fun _ => 0) i 0 c) i) _ (tk_en_ad en hi q1 lo hi2 (fun k hk => tk_in_lo hk) tk_in_at (fun k hk _ => tk_in_hi hk)) (fun k hk => by
      unfold tk_iw
      rcases Nat.lt_trichotomy k (tk_ip H (fun _ => 0) i 0 c) with y | y | y
      · rw [if_neg (by omega), if_neg (by omega), tk_in_lo y]; exact hh k (by omega)
      · rw [if_pos (by omega), y, tk_in_at]
      · rw [if_neg (by omega), if_pos (by omega), tk_in_hi y]; exact hh (k - 1) (by omega))) (c + 1) (by omega)
  unfold wpX_putHit
  exact ⟨_, K⟩
theorem xw_f78 {post : SX → Prop} {J : Int32 → Int32 → Int32 → Int32 → Int32 → Int32 → (Nat → Int32) → (Nat → Int32) → (Nat → Int32) → (Nat → Int32) → (Nat → Int32) → (Nat → Int32) → (Nat → Int32) → (Nat → Int32) → (Nat → Int32) → (Nat → Int32) → (Nat → Int32) → (Nat → Int32) → (Nat → Int32) → (Nat → Int32) → Prop} {fr fo fb : Int32} {xs xe xz ho li fi mi ru rv ou ov sp : Nat → Int32} {t n a b g turn : Nat} {s e pr F M L : Nat → Nat}
    (ht : t < 3) (hn : n ≤ 32) (hg : g ≤ n) (ha : a < 65) (hb : b < 66) (htn : turn < 33) (hso : tk_so n s e) (hx : ∀ j, j < n → xs (32 * t + j) = nI (s j)) (hd : tk_pd n e pr F M L) (hl : ∀ p, p < n → li p = nI (L p)) (hfm : ∀ g, g ≤ n → fi g = nI (F g) ∧ mi g = nI (M g))
    (hM : ∀ g, g ≤ n → M g ≤ 32)
    (hp : ∀ (fd : Nat → Bool) (c w : Nat) (H Z : Nat → Nat) (hs sk : Nat → Int32), tk_f1 n (tk_hp s e a b) pr fd w Z → tk_f7 n (tk_hp s e a b) pr fd w Z → tk_en c H n fd → (∀ k, k < c → hs k = nI (H k)) → (∀ k, k < w → sk k = tw_h (Z k)) → turn + 1 + w ≤ 1 + c → J (nI w) (nI (turn + 1)) fr fo (nI c) fb xs xe xz ho li fi mi hs sk ru rv ou ov sp) :
    ∀ m p, p + m = F g + M g → F g ≤ p → (∀ q, p ≤ q → q < F g + M g → a < e (L q)) → ∀ (fd : Nat → Bool) (c w : Nat) (H Z : Nat → Nat) (hs sk : Nat → Int32), tk_fm n (tk_hp s e a b) pr F M L fd w Z g p → tk_en c H n fd → (∀ k, k < c → hs k = nI (H k)) → (∀ k, k < w → sk k = tw_h (Z k)) → turn + 1 + w ≤ 1 + c →
    ∀ f, m < f → wX_findHits_78 post J (nI t) (nI a) (nI b) (nI turn) (nI (F g + M g)) f (nI w) (nI p) fr fo (nI c) fb xs xe xz ho li fi mi hs sk ru rv ou ov sp := by
  have hfg := hd.2.1 g hg
  intro m
  induction m with
  | zero =>
    intro p hm hp1 hq fd c w H Z hs sk fm en h1 h2 h3 f hf
    obtain ⟨f, rfl⟩ : ∃ g, f = g + 1 := ⟨f - 1, by omega⟩
    have g0 : F g + M g ≤ p := by omega
    have o := tk_f_out fm (fun q q1 q2 => by omega)
    have K := hp fd c w H Z hs sk o.1 o.2 en h1 h2 h3
    simp (disch := omega) only [wX_findHits_78, g0, forall_eq, nI_leI, nI_ltI, nI_eq, vp_in_nI, nI_clamp, nI_1, nI_add, tw_32, tw_32r, tw_p, sb_m1, tw_s1, tw_65, Nat.add_sub_cancel, tw_l0a, tw_l0b, tw_l0c, tw_l0d, tw_l0e, tw_l1a, tw_l1b, tw_l1c, tw_l1d, tw_l1e, tw_l2a, tw_l2b, tw_l2c, tw_l2d, tw_l2e, tw_l3a, tw_l3b, tw_l3c, tw_l3d, tw_l3e, tw_l4a, tw_l4b, tw_l4c, tw_l4d, tw_l4e, tw_l7a, tw_l7b, tw_l7c, tw_l7d, tw_l7e, tw_l31a, tw_l31b, tw_l31c, tw_l31d, tw_l31e, tw_l32a, tw_l32b, tw_l32c, tw_l32d, tw_l32e, tw_l63a, tw_l63b, tw_l63c, tw_l63d, tw_l63e, tw_l64a, tw_l64b, tw_l64c, tw_l64d, tw_l64e, true_implies, forall_const, not_true_eq_false, not_false_eq_true, false_implies, and_true, true_and, implies_true, and_self]
    exact K
  | succ m ih =>
    intro p hm hp1 hq fd c w H Z hs sk fm en h1 h2 h3 f hf
    obtain ⟨f, rfl⟩ : ∃ g, f = g + 1 := ⟨f - 1, by omega⟩
    have g0 : ¬ F g + M g ≤ p := by omega
    have c1 := hd.2.2.1 g hg p hp1 (by omega)
    have i1 := hl p (by omega)
    have i2 := hx (L p) c1.1
    have b1 := hso.1 (L p) c1.1
    have cn := tk_en_le en
    by_cases y : b ≤ s (L p)
    · have o := tk_f_out fm (fun q q1 q2 => by
        by_cases v : q = p
        · rw [v]; exact y
        · have c2 := hd.2.2.2.1 g hg p q hp1 (by omega) q2
          have c3 := hd.2.2.1 g hg q (by omega) q2
          have c4 := tk_so_le hso (show L p ≤ L q by omega) c3.1
          omega)
      have K := hp fd c w H Z hs sk o.1 o.2 en h1 h2 h3
      simp (disch := omega) only [wX_findHits_78, g0, i1, i2, y, forall_eq, nI_leI, nI_ltI, nI_eq, vp_in_nI, nI_clamp, nI_1, nI_add, tw_32, tw_32r, tw_p, sb_m1, tw_s1, tw_65, Nat.add_sub_cancel, tw_l0a, tw_l0b, tw_l0c, tw_l0d, tw_l0e, tw_l1a, tw_l1b, tw_l1c, tw_l1d, tw_l1e, tw_l2a, tw_l2b, tw_l2c, tw_l2d, tw_l2e, tw_l3a, tw_l3b, tw_l3c, tw_l3d, tw_l3e, tw_l4a, tw_l4b, tw_l4c, tw_l4d, tw_l4e, tw_l7a, tw_l7b, tw_l7c, tw_l7d, tw_l7e, tw_l31a, tw_l31b, tw_l31c, tw_l31d, tw_l31e, tw_l32a, tw_l32b, tw_l32c, tw_l32d, tw_l32e, tw_l63a, tw_l63b, tw_l63c, tw_l63d, tw_l63e, tw_l64a, tw_l64b, tw_l64c, tw_l64d, tw_l64e, true_implies, forall_const, not_true_eq_false, not_false_eq_true, false_implies, and_true, true_and, implies_true, and_self]
      exact K
    · have hh : tk_hp s e a b (L p) = true := decide_eq_true ⟨by omega, hq p (Nat.le_refl _) (by omega)⟩
      have hnew := tk_f_new hd fm hp1 (by omega)
      simp (disch := omega) only [wX_findHits_78, g0, i1, i2, y, forall_eq, nI_leI, nI_ltI, nI_eq, vp_in_nI, nI_clamp, nI_1, nI_add, tw_32, tw_32r, tw_p, sb_m1, tw_s1, tw_65, Nat.add_sub_cancel, tw_l0a, tw_l0b, tw_l0c, tw_l0d, tw_l0e, tw_l1a, tw_l1b, tw_l1c, tw_l1d, tw_l1e, tw_l2a, tw_l2b, tw_l2c, tw_l2d, tw_l2e, tw_l3a, tw_l3b, tw_l3c, tw_l3d, tw_l3e, tw_l4a, tw_l4b, tw_l4c, tw_l4d, tw_l4e, tw_l7a, tw_l7b, tw_l7c, tw_l7d, tw_l7e, tw_l31a, tw_l31b, tw_l31c, tw_l31d, tw_l31e, tw_l32a, tw_l32b, tw_l32c, tw_l32d, tw_l32e, tw_l63a, tw_l63b, tw_l63c, tw_l63d, tw_l63e, tw_l64a, tw_l64b, tw_l64c, tw_l64d, tw_l64e, true_implies, forall_const, not_true_eq_false, not_false_eq_true, false_implies, and_true, true_and, implies_true, and_self]
      refine xw_put en hn c1.1 hnew h1 (fun H' hs' en' h1' => ?_)
      have i3 := (hfm (L p + 1) (by omega)).2
      have b3 := hM (L p + 1) (by omega)
      by_cases v : M (L p + 1) ≤ 0
      · have K := ih (p + 1) (by omega) (by omega) (fun q q1 q2 => hq q (by omega) q2) (tk_ad fd (L p)) (c + 1) w H' Z hs' sk (tk_f_step hd fm hp1 (by omega) hh (fun k _ => rfl) (Or.inl ⟨rfl, by omega⟩)) en' h1' h2 (by omega) f (by omega)
        simp (disch := omega) only [i3, v, forall_eq, nI_leI, nI_ltI, nI_eq, vp_in_nI, nI_clamp, nI_1, nI_add, tw_32, tw_32r, tw_p, sb_m1, tw_s1, tw_65, Nat.add_sub_cancel, tw_l0a, tw_l0b, tw_l0c, tw_l0d, tw_l0e, tw_l1a, tw_l1b, tw_l1c, tw_l1d, tw_l1e, tw_l2a, tw_l2b, tw_l2c, tw_l2d, tw_l2e, tw_l3a, tw_l3b, tw_l3c, tw_l3d, tw_l3e, tw_l4a, tw_l4b, tw_l4c, tw_l4d, tw_l4e, tw_l7a, tw_l7b, tw_l7c, tw_l7d, tw_l7e, tw_l31a, tw_l31b, tw_l31c, tw_l31d, tw_l31e, tw_l32a, tw_l32b, tw_l32c, tw_l32d, tw_l32e, tw_l63a, tw_l63b, tw_l63c, tw_l63d, tw_l63e, tw_l64a, tw_l64b, tw_l64c, tw_l64d, tw_l64e, true_implies, forall_const, not_true_eq_false, not_false_eq_true, false_implies, and_true, true_and, implies_true, and_self]
        exact K
      · have K := ih (p + 1) (by omega) (by omega) (fun q q1 q2 => hq q (by omega) q2) (tk_ad fd (L p)) (c + 1) (w + 1) H' (tk_st Z w (L p + 1)) hs' (upd sk w (nI (L p))) (tk_f_step hd fm hp1 (by omega) hh (fun k hk => tk_st_ne (by omega)) (Or.inr ⟨rfl, tk_st_at⟩)) en' h1'
          (tw_uh (tw_hS (L p)).symm (fun k hk hne => h2 k (by omega))) (by omega) f (by omega)
        simp (disch := omega) only [i3, v, forall_eq, nI_leI, nI_ltI, nI_eq, vp_in_nI, nI_clamp, nI_1, nI_add, tw_32, tw_32r, tw_p, sb_m1, tw_s1, tw_65, Nat.add_sub_cancel, tw_l0a, tw_l0b, tw_l0c, tw_l0d, tw_l0e, tw_l1a, tw_l1b, tw_l1c, tw_l1d, tw_l1e, tw_l2a, tw_l2b, tw_l2c, tw_l2d, tw_l2e, tw_l3a, tw_l3b, tw_l3c, tw_l3d, tw_l3e, tw_l4a, tw_l4b, tw_l4c, tw_l4d, tw_l4e, tw_l7a, tw_l7b, tw_l7c, tw_l7d, tw_l7e, tw_l31a, tw_l31b, tw_l31c, tw_l31d, tw_l31e, tw_l32a, tw_l32b, tw_l32c, tw_l32d, tw_l32e, tw_l63a, tw_l63b, tw_l63c, tw_l63d, tw_l63e, tw_l64a, tw_l64b, tw_l64c, tw_l64d, tw_l64e, true_implies, forall_const, not_true_eq_false, not_false_eq_true, false_implies, and_true, true_and, implies_true, and_self]
        exact K
theorem xw_f23 {post : SX → Prop} {fr fo fb : Int32} {xs xe xz ho li fi mi ru rv ou ov sp : Nat → Int32} {t n a b : Nat} {s e pr F M L : Nat → Nat}
    (ht : t < 3) (hn : n ≤ 32) (ha : a < 65) (hb : b < 66) (hso : tk_so n s e) (hx : ∀ j, j < n → xs (32 * t + j) = nI (s j)) (hx2 : ∀ j, j < n → xe (32 * t + j) = nI (e j)) (hd : tk_pd n e pr F M L) (hl : ∀ p, p < n → li p = nI (L p)) (hfm : ∀ g, g ≤ n → fi g = nI (F g) ∧ mi g = nI (M g))
    (hp : ∀ (c : Nat) (H : Nat → Nat) (hs sk : Nat → Int32), tk_en c H n (tk_hp s e a b) → (∀ k, k < c → hs k = nI (H k)) → post (fr, fo, nI c, fb, xs, xe, xz, ho, li, fi, mi, hs, sk, ru, rv, ou, ov, sp)) :
    ∀ m turn, turn + m = 33 → ∀ (fd : Nat → Bool) (c w : Nat) (H Z : Nat → Nat) (hs sk : Nat → Int32), tk_f1 n (tk_hp s e a b) pr fd w Z → tk_f7 n (tk_hp s e a b) pr fd w Z → tk_en c H n fd → (∀ k, k < c → hs k = nI (H k)) → (∀ k, k < w → sk k = tw_h (Z k)) → turn + w ≤ 1 + c →
    ∀ f, m < f → wX_findHits_23 post (nI t) (nI a) (nI b) f (nI w) (nI turn) fr fo (nI c) fb xs xe xz ho li fi mi hs sk ru rv ou ov sp := by
  have hM : ∀ g, g ≤ n → M g ≤ 32 := fun g hg => by have z := hd.2.1 g hg; omega
  have fin : ∀ (fd : Nat → Bool) (c : Nat) (H Z : Nat → Nat) (hs sk : Nat → Int32), tk_f1 n (tk_hp s e a b) pr fd 0 Z → tk_f7 n (tk_hp s e a b) pr fd 0 Z → tk_en c H n fd → (∀ k, k < c → hs k = nI (H k)) → post (fr, fo, nI c, fb, xs, xe, xz, ho, li, fi, mi, hs, sk, ru, rv, ou, ov, sp) := by
    intro fd c H Z hs sk f1 f7 en h1
    refine hp c H hs sk ⟨fun k hk => ⟨(en.1 k hk).1, (f1.1 (H k) (en.1 k hk).2).2⟩, en.2.1, fun i hi hh => en.2.2 i hi (tk_f_all hso hd f7 i hi hh)⟩ h1
  intro m
  induction m with
  | zero =>
    intro turn hm fd c w H Z hs sk f1 f7 en h1 h2 h3 f hf
    obtain ⟨f, rfl⟩ : ∃ g, f = g + 1 := ⟨f - 1, by omega⟩
    have cn := tk_en_le en
    have e0 : turn = 33 := by omega
    subst e0
    have e1 : w = 0 := by omega
    subst e1
    have K := fin fd c H Z hs sk f1 f7 en h1
    have g0 : 32 < 33 := by omega
    simp (disch := omega) only [wX_findHits_23, g0, forall_eq, nI_leI, nI_ltI, nI_eq, vp_in_nI, nI_clamp, nI_1, nI_add, tw_32, tw_32r, tw_p, sb_m1, tw_s1, tw_65, Nat.add_sub_cancel, tw_l0a, tw_l0b, tw_l0c, tw_l0d, tw_l0e, tw_l1a, tw_l1b, tw_l1c, tw_l1d, tw_l1e, tw_l2a, tw_l2b, tw_l2c, tw_l2d, tw_l2e, tw_l3a, tw_l3b, tw_l3c, tw_l3d, tw_l3e, tw_l4a, tw_l4b, tw_l4c, tw_l4d, tw_l4e, tw_l7a, tw_l7b, tw_l7c, tw_l7d, tw_l7e, tw_l31a, tw_l31b, tw_l31c, tw_l31d, tw_l31e, tw_l32a, tw_l32b, tw_l32c, tw_l32d, tw_l32e, tw_l63a, tw_l63b, tw_l63c, tw_l63d, tw_l63e, tw_l64a, tw_l64b, tw_l64c, tw_l64d, tw_l64e, true_implies, forall_const, not_true_eq_false, not_false_eq_true, false_implies, and_true, true_and, implies_true, and_self]
    exact K
  | succ m ih =>
    intro turn hm fd c w H Z hs sk f1 f7 en h1 h2 h3 f hf
    obtain ⟨f, rfl⟩ : ∃ g, f = g + 1 := ⟨f - 1, by omega⟩
    have g0 : ¬ 32 < turn := by omega
    have cn := tk_en_le en
    cases w with
    | zero =>
      have K := fin fd c H Z hs sk f1 f7 en h1
      have g1 : 0 ≤ 0 := Nat.le_refl 0
      simp (disch := omega) only [wX_findHits_23, g0, g1, forall_eq, nI_leI, nI_ltI, nI_eq, vp_in_nI, nI_clamp, nI_1, nI_add, tw_32, tw_32r, tw_p, sb_m1, tw_s1, tw_65, Nat.add_sub_cancel, tw_l0a, tw_l0b, tw_l0c, tw_l0d, tw_l0e, tw_l1a, tw_l1b, tw_l1c, tw_l1d, tw_l1e, tw_l2a, tw_l2b, tw_l2c, tw_l2d, tw_l2e, tw_l3a, tw_l3b, tw_l3c, tw_l3d, tw_l3e, tw_l4a, tw_l4b, tw_l4c, tw_l4d, tw_l4e, tw_l7a, tw_l7b, tw_l7c, tw_l7d, tw_l7e, tw_l31a, tw_l31b, tw_l31c, tw_l31d, tw_l31e, tw_l32a, tw_l32b, tw_l32c, tw_l32d, tw_l32e, tw_l63a, tw_l63b, tw_l63c, tw_l63d, tw_l63e, tw_l64a, tw_l64b, tw_l64c, tw_l64d, tw_l64e, true_implies, forall_const, not_true_eq_false, not_false_eq_true, false_implies, and_true, true_and, implies_true, and_self]
      exact K
    | succ w =>
      have g1 : ¬ w + 1 ≤ 0 := by omega
      have i1 := h2 w (by omega)
      have zn := (f1.2.1 w (by omega)).1
      have i2 := hfm (Z w) zn
      have b2 := hM (Z w) zn
      have b3 := hd.2.1 (Z w) zn
      simp (disch := omega) only [wX_findHits_23, g0, g1, i1, tw_h1, i2.1, i2.2, forall_eq, nI_leI, nI_ltI, nI_eq, vp_in_nI, nI_clamp, nI_1, nI_add, tw_32, tw_32r, tw_p, sb_m1, tw_s1, tw_65, Nat.add_sub_cancel, tw_l0a, tw_l0b, tw_l0c, tw_l0d, tw_l0e, tw_l1a, tw_l1b, tw_l1c, tw_l1d, tw_l1e, tw_l2a, tw_l2b, tw_l2c, tw_l2d, tw_l2e, tw_l3a, tw_l3b, tw_l3c, tw_l3d, tw_l3e, tw_l4a, tw_l4b, tw_l4c, tw_l4d, tw_l4e, tw_l7a, tw_l7b, tw_l7c, tw_l7d, tw_l7e, tw_l31a, tw_l31b, tw_l31c, tw_l31d, tw_l31e, tw_l32a, tw_l32b, tw_l32c, tw_l32d, tw_l32e, tw_l63a, tw_l63b, tw_l63c, tw_l63d, tw_l63e, tw_l64a, tw_l64b, tw_l64c, tw_l64d, tw_l64e, true_implies, forall_const, not_true_eq_false, not_false_eq_true, false_implies, and_true, true_and, implies_true, and_self]
      refine xw_first ht hn zn ha hso hx2 hd hl i2.1 i2.2 (fun lo l1 l2 l3 l4 => ⟨F (Z w) + M (Z w) + 1, ?_⟩)
      exact xw_f78 ht hn zn ha hb (by omega) hso hx hd hl hfm hM (fun fd' c' w' H' Z' hs' sk' k1 k7 ken kh ksk kc => ih (turn + 1) (by omega) fd' c' w' H' Z' hs' sk' k1 k7 ken kh ksk kc f (by omega))
        (F (Z w) + M (Z w) - lo) lo (by omega) l1 l4 fd c w H Z hs sk (tk_f_in hd f1 f7 l3) en h1 (fun k hk => h2 k (by omega)) (by omega) _ (by omega)
theorem xw_find {post : SX → Prop} {fr fo fh fb : Int32} {xs xe xz ho li fi mi hs sk ru rv ou ov sp : Nat → Int32} {N : Nat → Nat} {S E : Nat → Nat → Nat} {t a b : Nat} (ok : tk_ok N S E) (R : tk_rx N S E xs xe xz) (ht : t < 3) (B : fb = nI t → tk_bd (N t) (E t) li fi mi) (ha : a < 65) (hb : b < 66)
    (hp : ∀ (c : Nat) (H : Nat → Nat) (ho li fi mi hs sk : Nat → Int32), tk_en c H (N t) (tk_hp (S t) (E t) a b) → (∀ k, k < c → hs k = nI (H k)) → tk_bd (N t) (E t) li fi mi → post (fr, fo, nI c, nI t, xs, xe, xz, ho, li, fi, mi, hs, sk, ru, rv, ou, ov, sp)) : wpX_findHits post (fr, fo, fh, fb, xs, xe, xz, ho, li, fi, mi, hs, sk, ru, rv, ou, ov, sp) (nI t) (nI a) (nI b) := by
  unfold wpX_findHits
  refine xw_build ok R ht B (fun ho li fi mi sk bd => ?_)
  have bd0 := bd
  obtain ⟨pr, F, M, L, k1, k2, hd⟩ := bd
  refine nm_e ⟨34, ?_⟩
  have f0 := tk_f_0 (n := N t) (hp := tk_hp (S t) (E t) a b) (pr := pr) (Z := fun _ => 0) rfl
  exact xw_f23 ht (ok t ht).1 ha hb (ok t ht).2 (R.2.1 t ht) (R.2.2 t ht) hd k2 k1 (fun c H hs sk en hh => hp c H ho li fi mi hs sk en hh bd0) 33 0 (by omega) (fun _ => false) 0 1 (fun _ => 0) (fun _ => 0) hs (upd sk 0 (-1)) f0.1 f0.2
    ⟨fun k hk => absurd hk (Nat.not_lt_zero k), fun _ k _ hk => absurd hk (Nat.not_lt_zero k), fun i _ h => by cases h⟩ (fun k hk => absurd hk (Nat.not_lt_zero k)) (fun k hk => by
      have e0 : k = 0 := by omega
      subst e0
      rw [pk_us, tw_h0]) (by omega) 34 (by omega)
end
section
/-! Y's depth, marks and runs -/
theorem yw_dp {post : Int32 → Prop} {ys ye yz mk : Nat → Int32} {t n p : Nat} {s e : Nat → Nat} (ht : t < 3) (hn : n ≤ 32) (hp : p < 64) (hso : tk_so n s e) (hz : yz t = nI n) (hx : ∀ j, j < n → ys (32 * t + j) = nI (s j) ∧ ye (32 * t + j) = nI (e j)) (h : post (nI (tk_dp n s e p))) :
    ∀ m i, i + m = n → ∀ f, m < f → wY_deep_5 post (nI t) (nI p) ys ye yz mk f (nI (tk_dp i s e p)) (nI i) := by
  intro m
  induction m with
  | zero =>
    intro i hi f hf
    obtain ⟨f, rfl⟩ : ∃ g, f = g + 1 := ⟨f - 1, by omega⟩
    have e0 : i = n := by omega
    subst e0
    have g0 : i ≤ i := Nat.le_refl _
    simp (disch := omega) only [wY_deep_5, g0, hz, forall_eq, nI_leI, nI_ltI, nI_eq, vp_in_nI, nI_clamp, nI_1, nI_add, tw_32, tw_32r, tw_p, sb_m1, tw_s1, tw_65, Nat.add_sub_cancel, tw_l0a, tw_l0b, tw_l0c, tw_l0d, tw_l0e, tw_l1a, tw_l1b, tw_l1c, tw_l1d, tw_l1e, tw_l2a, tw_l2b, tw_l2c, tw_l2d, tw_l2e, tw_l3a, tw_l3b, tw_l3c, tw_l3d, tw_l3e, tw_l4a, tw_l4b, tw_l4c, tw_l4d, tw_l4e, tw_l7a, tw_l7b, tw_l7c, tw_l7d, tw_l7e, tw_l31a, tw_l31b, tw_l31c, tw_l31d, tw_l31e, tw_l32a, tw_l32b, tw_l32c, tw_l32d, tw_l32e, tw_l63a, tw_l63b, tw_l63c, tw_l63d, tw_l63e, tw_l64a, tw_l64b, tw_l64c, tw_l64d, tw_l64e, true_implies, forall_const, not_true_eq_false, not_false_eq_true, false_implies, and_true, true_and, implies_true, and_self]
    exact h
  | succ m ih =>
    intro i hi f hf
    obtain ⟨f, rfl⟩ : ∃ g, f = g + 1 := ⟨f - 1, by omega⟩
    have g0 : ¬ n ≤ i := by omega
    have i1 := (hx i (by omega)).1
    have i2 := (hx i (by omega)).2
    have b0 := hso.1 i (by omega)
    have H := ih (i + 1) (by omega) f (by omega)
    by_cases z1 : p < s i
    · rw [tk_dp_f (by omega)] at H
      simp (disch := omega) only [wY_deep_5, g0, hz, i1, i2, z1, forall_eq, nI_leI, nI_ltI, nI_eq, vp_in_nI, nI_clamp, nI_1, nI_add, tw_32, tw_32r, tw_p, sb_m1, tw_s1, tw_65, Nat.add_sub_cancel, tw_l0a, tw_l0b, tw_l0c, tw_l0d, tw_l0e, tw_l1a, tw_l1b, tw_l1c, tw_l1d, tw_l1e, tw_l2a, tw_l2b, tw_l2c, tw_l2d, tw_l2e, tw_l3a, tw_l3b, tw_l3c, tw_l3d, tw_l3e, tw_l4a, tw_l4b, tw_l4c, tw_l4d, tw_l4e, tw_l7a, tw_l7b, tw_l7c, tw_l7d, tw_l7e, tw_l31a, tw_l31b, tw_l31c, tw_l31d, tw_l31e, tw_l32a, tw_l32b, tw_l32c, tw_l32d, tw_l32e, tw_l63a, tw_l63b, tw_l63c, tw_l63d, tw_l63e, tw_l64a, tw_l64b, tw_l64c, tw_l64d, tw_l64e, true_implies, forall_const, not_true_eq_false, not_false_eq_true, false_implies, and_true, true_and, implies_true, and_self]
      exact H
    · by_cases z2 : e i ≤ p
      · rw [tk_dp_f (by omega)] at H
        simp (disch := omega) only [wY_deep_5, g0, hz, i1, i2, z1, z2, forall_eq, nI_leI, nI_ltI, nI_eq, vp_in_nI, nI_clamp, nI_1, nI_add, tw_32, tw_32r, tw_p, sb_m1, tw_s1, tw_65, Nat.add_sub_cancel, tw_l0a, tw_l0b, tw_l0c, tw_l0d, tw_l0e, tw_l1a, tw_l1b, tw_l1c, tw_l1d, tw_l1e, tw_l2a, tw_l2b, tw_l2c, tw_l2d, tw_l2e, tw_l3a, tw_l3b, tw_l3c, tw_l3d, tw_l3e, tw_l4a, tw_l4b, tw_l4c, tw_l4d, tw_l4e, tw_l7a, tw_l7b, tw_l7c, tw_l7d, tw_l7e, tw_l31a, tw_l31b, tw_l31c, tw_l31d, tw_l31e, tw_l32a, tw_l32b, tw_l32c, tw_l32d, tw_l32e, tw_l63a, tw_l63b, tw_l63c, tw_l63d, tw_l63e, tw_l64a, tw_l64b, tw_l64c, tw_l64d, tw_l64e, true_implies, forall_const, not_true_eq_false, not_false_eq_true, false_implies, and_true, true_and, implies_true, and_self]
        exact H
      · rw [tk_dp_t (by omega)] at H
        simp (disch := omega) only [wY_deep_5, g0, hz, i1, i2, z1, z2, forall_eq, nI_leI, nI_ltI, nI_eq, vp_in_nI, nI_clamp, nI_1, nI_add, tw_32, tw_32r, tw_p, sb_m1, tw_s1, tw_65, Nat.add_sub_cancel, tw_l0a, tw_l0b, tw_l0c, tw_l0d, tw_l0e, tw_l1a, tw_l1b, tw_l1c, tw_l1d, tw_l1e, tw_l2a, tw_l2b, tw_l2c, tw_l2d, tw_l2e, tw_l3a, tw_l3b, tw_l3c, tw_l3d, tw_l3e, tw_l4a, tw_l4b, tw_l4c, tw_l4d, tw_l4e, tw_l7a, tw_l7b, tw_l7c, tw_l7d, tw_l7e, tw_l31a, tw_l31b, tw_l31c, tw_l31d, tw_l31e, tw_l32a, tw_l32b, tw_l32c, tw_l32d, tw_l32e, tw_l63a, tw_l63b, tw_l63c, tw_l63d, tw_l63e, tw_l64a, tw_l64b, tw_l64c, tw_l64d, tw_l64e, true_implies, forall_const, not_true_eq_false, not_false_eq_true, false_implies, and_true, true_and, implies_true, and_self]
        exact H
theorem yw_deep {post : Int32 → Prop} {ys ye yz mk : Nat → Int32} {N : Nat → Nat} {S E : Nat → Nat → Nat} {t p : Nat} (ok : tk_ok N S E) (R : tk_rx N S E ys ye yz) (ht : t < 3) (hp : p < 64) (h : post (nI (tk_dp (N t) (S t) (E t) p))) : wpY_deep post (ys, ye, yz, mk) (nI t) (nI p) := by
  unfold wpY_deep
  exact ⟨N t + 1, yw_dp ht (ok t ht).1 hp (ok t ht).2 (R.1 t ht) (tw_pair R ht) h (N t) 0 (by omega) (N t + 1) (by omega)⟩
theorem tk_so_0 {s e : Nat → Nat} : tk_so 0 s e := ⟨fun i h => absurd h (Nat.not_lt_zero i), fun _ j _ h => absurd h (Nat.not_lt_zero j)⟩
theorem yw_rn {post : Int32 → SY → Prop} {mk : Nat → Int32} {N : Nat → Nat} {S E : Nat → Nat → Nat} {t : Nat} {P : Nat → Bool} (ht : t < 3) (hP : ∀ p, 64 ≤ p → P p = false) (hmk : ∀ p, p < 64 → mk p = tw_b (P p))
    (hp : ∀ (c : Nat) (s e : Nat → Nat) (ys ye yz : Nat → Int32), tk_nf c s e P 65 → tk_ok (tk_st N t c) (tk_st S t s) (tk_st E t e) → tk_rx (tk_st N t c) (tk_st S t s) (tk_st E t e) ys ye yz → post (nI c) (ys, ye, yz, mk)) :
    ∀ m p, p + m = 65 → ∀ (b c : Nat) (s e : Nat → Nat) (ys ye yz : Nat → Int32), b ≤ p → tk_nf c s e P b → (∀ q, b ≤ q → q < p → P q = true) → tk_ok (tk_st N t c) (tk_st S t s) (tk_st E t e) → tk_rx (tk_st N t c) (tk_st S t s) (tk_st E t e) ys ye yz →
    ∀ f, m < f → wY_runs_11 post (nI t) f (nI b) (nI p) ys ye yz mk := by
  intro m
  induction m with
  | zero =>
    intro p hm b c s e ys ye yz hb nf hq ok R f hf
    obtain ⟨f, rfl⟩ : ∃ g, f = g + 1 := ⟨f - 1, by omega⟩
    have e0 : p = 65 := by omega
    subst e0
    have e1 : b = 65 := by
      by_cases y : b = 65
      · exact y
      · have y2 := hq 64 (by omega) (by omega)
        rw [hP 64 (Nat.le_refl _)] at y2
        cases y2
    subst e1
    have g0 : 64 < 65 := by omega
    have hz := R.1 t ht
    rw [tk_st_at] at hz
    simp (disch := omega) only [wY_runs_11, g0, hz, forall_eq, nI_leI, nI_ltI, nI_eq, vp_in_nI, nI_clamp, nI_1, nI_add, tw_32, tw_32r, tw_p, sb_m1, tw_s1, tw_65, Nat.add_sub_cancel, tw_l0a, tw_l0b, tw_l0c, tw_l0d, tw_l0e, tw_l1a, tw_l1b, tw_l1c, tw_l1d, tw_l1e, tw_l2a, tw_l2b, tw_l2c, tw_l2d, tw_l2e, tw_l3a, tw_l3b, tw_l3c, tw_l3d, tw_l3e, tw_l4a, tw_l4b, tw_l4c, tw_l4d, tw_l4e, tw_l7a, tw_l7b, tw_l7c, tw_l7d, tw_l7e, tw_l31a, tw_l31b, tw_l31c, tw_l31d, tw_l31e, tw_l32a, tw_l32b, tw_l32c, tw_l32d, tw_l32e, tw_l63a, tw_l63b, tw_l63c, tw_l63d, tw_l63e, tw_l64a, tw_l64b, tw_l64c, tw_l64d, tw_l64e, true_implies, forall_const, not_true_eq_false, not_false_eq_true, false_implies, and_true, true_and, implies_true, and_self]
    exact hp c s e ys ye yz nf ok R
  | succ m ih =>
    intro p hm b c s e ys ye yz hb nf hq ok R f hf
    obtain ⟨f, rfl⟩ : ∃ g, f = g + 1 := ⟨f - 1, by omega⟩
    have g0 : ¬ 64 < p := by omega
    by_cases y : P p = true
    · have y1 : ¬ 64 ≤ p := by
        intro z
        rw [hP p z] at y
        cases y
      have i1 := hmk p (by omega)
      rw [y, tw_bt] at i1
      have K := ih (p + 1) (by omega) b c s e ys ye yz (by omega) nf (fun q q1 q2 => by
        by_cases v : q = p
        · rw [v]; exact y
        · exact hq q q1 (by omega)) ok R f (by omega)
      simp (disch := omega) only [wY_runs_11, g0, y1, i1, tw_10f, forall_eq, nI_leI, nI_ltI, nI_eq, vp_in_nI, nI_clamp, nI_1, nI_add, tw_32, tw_32r, tw_p, sb_m1, tw_s1, tw_65, Nat.add_sub_cancel, tw_l0a, tw_l0b, tw_l0c, tw_l0d, tw_l0e, tw_l1a, tw_l1b, tw_l1c, tw_l1d, tw_l1e, tw_l2a, tw_l2b, tw_l2c, tw_l2d, tw_l2e, tw_l3a, tw_l3b, tw_l3c, tw_l3d, tw_l3e, tw_l4a, tw_l4b, tw_l4c, tw_l4d, tw_l4e, tw_l7a, tw_l7b, tw_l7c, tw_l7d, tw_l7e, tw_l31a, tw_l31b, tw_l31c, tw_l31d, tw_l31e, tw_l32a, tw_l32b, tw_l32c, tw_l32d, tw_l32e, tw_l63a, tw_l63b, tw_l63c, tw_l63d, tw_l63e, tw_l64a, tw_l64b, tw_l64c, tw_l64d, tw_l64e, true_implies, forall_const, not_true_eq_false, not_false_eq_true, false_implies, and_true, true_and, implies_true, and_self]
      exact K
    · have K35 : wY_runs_35 post (wY_runs_11 post (nI t) f) (nI t) (nI b) (nI p) ys ye yz mk := by
        by_cases v : p ≤ b
        · have e0 : p = b := by omega
          subst e0
          have K := ih (p + 1) (by omega) (p + 1) c s e ys ye yz (by omega) (tk_nf_skip nf y) (fun q q1 q2 => by omega) ok R f (by omega)
          simp (disch := omega) only [wY_runs_35, v, forall_eq, nI_leI, nI_ltI, nI_eq, vp_in_nI, nI_clamp, nI_1, nI_add, tw_32, tw_32r, tw_p, sb_m1, tw_s1, tw_65, Nat.add_sub_cancel, tw_l0a, tw_l0b, tw_l0c, tw_l0d, tw_l0e, tw_l1a, tw_l1b, tw_l1c, tw_l1d, tw_l1e, tw_l2a, tw_l2b, tw_l2c, tw_l2d, tw_l2e, tw_l3a, tw_l3b, tw_l3c, tw_l3d, tw_l3e, tw_l4a, tw_l4b, tw_l4c, tw_l4d, tw_l4e, tw_l7a, tw_l7b, tw_l7c, tw_l7d, tw_l7e, tw_l31a, tw_l31b, tw_l31c, tw_l31d, tw_l31e, tw_l32a, tw_l32b, tw_l32c, tw_l32d, tw_l32e, tw_l63a, tw_l63b, tw_l63c, tw_l63d, tw_l63e, tw_l64a, tw_l64b, tw_l64c, tw_l64d, tw_l64e, true_implies, forall_const, not_true_eq_false, not_false_eq_true, false_implies, and_true, true_and, implies_true, and_self]
          exact K
        · have ln := tk_nf_len nf
          simp (disch := omega) only [wY_runs_35, v, forall_eq, nI_leI, nI_ltI, nI_eq, vp_in_nI, nI_clamp, nI_1, nI_add, tw_32, tw_32r, tw_p, sb_m1, tw_s1, tw_65, Nat.add_sub_cancel, tw_l0a, tw_l0b, tw_l0c, tw_l0d, tw_l0e, tw_l1a, tw_l1b, tw_l1c, tw_l1d, tw_l1e, tw_l2a, tw_l2b, tw_l2c, tw_l2d, tw_l2e, tw_l3a, tw_l3b, tw_l3c, tw_l3d, tw_l3e, tw_l4a, tw_l4b, tw_l4c, tw_l4d, tw_l4e, tw_l7a, tw_l7b, tw_l7c, tw_l7d, tw_l7e, tw_l31a, tw_l31b, tw_l31c, tw_l31d, tw_l31e, tw_l32a, tw_l32b, tw_l32c, tw_l32d, tw_l32e, tw_l63a, tw_l63b, tw_l63c, tw_l63d, tw_l63e, tw_l64a, tw_l64b, tw_l64c, tw_l64d, tw_l64e, true_implies, forall_const, not_true_eq_false, not_false_eq_true, false_implies, and_true, true_and, implies_true, and_self]
          refine yw_append ok R ht (by omega) (by omega) (by omega) (fun y0 => by have y1 := nf.1 (c - 1) (by omega); omega) (fun ys' ye' yz' ok' R' => ?_)
          exact ih (p + 1) (by omega) (p + 1) (c + 1) (tk_in s c b) (tk_in e c p) ys' ye' yz' (by omega) (tk_nf_add nf (by omega) hq y (fun k hk => ⟨tk_in_lo hk, tk_in_lo hk⟩) tk_in_at tk_in_at) (fun q q1 q2 => by omega) ok' R' f (by omega)
      by_cases y1 : 64 ≤ p
      · simp (disch := omega) only [wY_runs_11, g0, y1, forall_eq, nI_leI, nI_ltI, nI_eq, vp_in_nI, nI_clamp, nI_1, nI_add, tw_32, tw_32r, tw_p, sb_m1, tw_s1, tw_65, Nat.add_sub_cancel, tw_l0a, tw_l0b, tw_l0c, tw_l0d, tw_l0e, tw_l1a, tw_l1b, tw_l1c, tw_l1d, tw_l1e, tw_l2a, tw_l2b, tw_l2c, tw_l2d, tw_l2e, tw_l3a, tw_l3b, tw_l3c, tw_l3d, tw_l3e, tw_l4a, tw_l4b, tw_l4c, tw_l4d, tw_l4e, tw_l7a, tw_l7b, tw_l7c, tw_l7d, tw_l7e, tw_l31a, tw_l31b, tw_l31c, tw_l31d, tw_l31e, tw_l32a, tw_l32b, tw_l32c, tw_l32d, tw_l32e, tw_l63a, tw_l63b, tw_l63c, tw_l63d, tw_l63e, tw_l64a, tw_l64b, tw_l64c, tw_l64d, tw_l64e, true_implies, forall_const, not_true_eq_false, not_false_eq_true, false_implies, and_true, true_and, implies_true, and_self]
        exact K35
      · have i1 := hmk p (by omega)
        rw [Bool.eq_false_iff.mpr y, tw_bf] at i1
        simp (disch := omega) only [wY_runs_11, g0, y1, i1, forall_eq, nI_leI, nI_ltI, nI_eq, vp_in_nI, nI_clamp, nI_1, nI_add, tw_32, tw_32r, tw_p, sb_m1, tw_s1, tw_65, Nat.add_sub_cancel, tw_l0a, tw_l0b, tw_l0c, tw_l0d, tw_l0e, tw_l1a, tw_l1b, tw_l1c, tw_l1d, tw_l1e, tw_l2a, tw_l2b, tw_l2c, tw_l2d, tw_l2e, tw_l3a, tw_l3b, tw_l3c, tw_l3d, tw_l3e, tw_l4a, tw_l4b, tw_l4c, tw_l4d, tw_l4e, tw_l7a, tw_l7b, tw_l7c, tw_l7d, tw_l7e, tw_l31a, tw_l31b, tw_l31c, tw_l31d, tw_l31e, tw_l32a, tw_l32b, tw_l32c, tw_l32d, tw_l32e, tw_l63a, tw_l63b, tw_l63c, tw_l63d, tw_l63e, tw_l64a, tw_l64b, tw_l64c, tw_l64d, tw_l64e, true_implies, forall_const, not_true_eq_false, not_false_eq_true, false_implies, and_true, true_and, implies_true, and_self]
        exact K35
theorem yw_runs {post : Int32 → SY → Prop} {ys ye yz mk : Nat → Int32} {N : Nat → Nat} {S E : Nat → Nat → Nat} {t : Nat} {P : Nat → Bool} (ok : tk_ok N S E) (R : tk_rx N S E ys ye yz) (ht : t < 3) (hP : ∀ p, 64 ≤ p → P p = false) (hmk : ∀ p, p < 64 → mk p = tw_b (P p))
    (hp : ∀ (c : Nat) (s e : Nat → Nat) (ys ye yz : Nat → Int32), tk_nf c s e P 65 → tk_ok (tk_st N t c) (tk_st S t s) (tk_st E t e) → tk_rx (tk_st N t c) (tk_st S t s) (tk_st E t e) ys ye yz → post (nI c) (ys, ye, yz, mk)) : wpY_runs post (ys, ye, yz, mk) (nI t) := by
  have H := yw_rn ht hP hmk hp 65 0 (by omega) 0 0 (fun _ => 0) (fun _ => 0) ys ye (upd yz t 0) (Nat.le_refl 0) tk_nf_0 (fun q _ q2 => absurd q2 (Nat.not_lt_zero q)) (tk_ok_st ok (by omega) tk_so_0)
    ⟨tk_pz_st R.1 rfl, tk_pa_st R.2.1 (tk_ok_N ok) (fun i hi => absurd hi (Nat.not_lt_zero i)) (fun j _ => rfl), tk_pa_st R.2.2 (tk_ok_N ok) (fun i hi => absurd hi (Nat.not_lt_zero i)) (fun j _ => rfl)⟩ 66 (by omega)
  simp (disch := omega) only [wpY_runs, forall_eq, nI_leI, nI_ltI, nI_eq, vp_in_nI, nI_clamp, nI_1, nI_add, tw_32, tw_32r, tw_p, sb_m1, tw_s1, tw_65, Nat.add_sub_cancel, tw_l0a, tw_l0b, tw_l0c, tw_l0d, tw_l0e, tw_l1a, tw_l1b, tw_l1c, tw_l1d, tw_l1e, tw_l2a, tw_l2b, tw_l2c, tw_l2d, tw_l2e, tw_l3a, tw_l3b, tw_l3c, tw_l3d, tw_l3e, tw_l4a, tw_l4b, tw_l4c, tw_l4d, tw_l4e, tw_l7a, tw_l7b, tw_l7c, tw_l7d, tw_l7e, tw_l31a, tw_l31b, tw_l31c, tw_l31d, tw_l31e, tw_l32a, tw_l32b, tw_l32c, tw_l32d, tw_l32e, tw_l63a, tw_l63b, tw_l63c, tw_l63d, tw_l63e, tw_l64a, tw_l64b, tw_l64c, tw_l64d, tw_l64e, true_implies, forall_const, not_true_eq_false, not_false_eq_true, false_implies, and_true, true_and, implies_true, and_self]
  exact ⟨66, H⟩
theorem tw_n0 : vp_nar .boolean 0 = 0 := rfl
theorem tw_n1 : vp_nar .boolean 1 = 1 := rfl
theorem tw_mk {mk : Nat → Int32} {P : Nat → Bool} {p : Nat} {v : Int32} (hv : v = tw_b (P p)) (h : ∀ q, q < p → mk q = tw_b (P q)) : ∀ q, q < p + 1 → upd mk p v q = tw_b (P q) := by
  intro q hq
  by_cases z : q = p
  · subst z
    rw [pk_us, hv]
  · rw [pk_un z]
    exact h q (by omega)
theorem yw_mer {post : Int32 → SY → Prop} {ys ye yz : Nat → Int32} {N : Nat → Nat} {S E : Nat → Nat → Nat} {t : Nat} (ok : tk_ok N S E) (R : tk_rx N S E ys ye yz) (ht : t < 3)
    (hp : ∀ (c : Nat) (s e : Nat → Nat) (ys ye yz mk : Nat → Int32), tk_nf c s e (tk_cv (N t) (S t) (E t)) 65 → tk_ok (tk_st N t c) (tk_st S t s) (tk_st E t e) → tk_rx (tk_st N t c) (tk_st S t s) (tk_st E t e) ys ye yz → post (nI c) (ys, ye, yz, mk)) :
    ∀ m p, p + m = 64 → ∀ mk : Nat → Int32, (∀ q, q < p → mk q = tw_b (tk_cv (N t) (S t) (E t) q)) → ∀ f, m < f → wY_merge_12 post (nI t) f (nI p) ys ye yz mk := by
  intro m
  induction m with
  | zero =>
    intro p hm mk h f hf
    obtain ⟨f, rfl⟩ : ∃ g, f = g + 1 := ⟨f - 1, by omega⟩
    have g0 : 64 ≤ p := by omega
    simp (disch := omega) only [wY_merge_12, g0, forall_eq, nI_leI, nI_ltI, nI_eq, vp_in_nI, nI_clamp, nI_1, nI_add, tw_32, tw_32r, tw_p, sb_m1, tw_s1, tw_65, Nat.add_sub_cancel, tw_l0a, tw_l0b, tw_l0c, tw_l0d, tw_l0e, tw_l1a, tw_l1b, tw_l1c, tw_l1d, tw_l1e, tw_l2a, tw_l2b, tw_l2c, tw_l2d, tw_l2e, tw_l3a, tw_l3b, tw_l3c, tw_l3d, tw_l3e, tw_l4a, tw_l4b, tw_l4c, tw_l4d, tw_l4e, tw_l7a, tw_l7b, tw_l7c, tw_l7d, tw_l7e, tw_l31a, tw_l31b, tw_l31c, tw_l31d, tw_l31e, tw_l32a, tw_l32b, tw_l32c, tw_l32d, tw_l32e, tw_l63a, tw_l63b, tw_l63c, tw_l63d, tw_l63e, tw_l64a, tw_l64b, tw_l64c, tw_l64d, tw_l64e, true_implies, forall_const, not_true_eq_false, not_false_eq_true, false_implies, and_true, true_and, implies_true, and_self]
    exact yw_runs ok R ht (fun q hq => Bool.eq_false_iff.mpr (tk_cv_64 (ok t ht).2 hq)) (fun q hq => h q (by omega)) (fun c s e ys ye yz nf ok' R' => hp c s e ys ye yz mk nf ok' R')
  | succ m ih =>
    intro p hm mk h f hf
    obtain ⟨f, rfl⟩ : ∃ g, f = g + 1 := ⟨f - 1, by omega⟩
    have g0 : ¬ 64 ≤ p := by omega
    have dl := tk_dp_le (N t) (S t) (E t) p
    have nl := (ok t ht).1
    simp (disch := omega) only [wY_merge_12, g0, forall_eq, nI_leI, nI_ltI, nI_eq, vp_in_nI, nI_clamp, nI_1, nI_add, tw_32, tw_32r, tw_p, sb_m1, tw_s1, tw_65, Nat.add_sub_cancel, tw_l0a, tw_l0b, tw_l0c, tw_l0d, tw_l0e, tw_l1a, tw_l1b, tw_l1c, tw_l1d, tw_l1e, tw_l2a, tw_l2b, tw_l2c, tw_l2d, tw_l2e, tw_l3a, tw_l3b, tw_l3c, tw_l3d, tw_l3e, tw_l4a, tw_l4b, tw_l4c, tw_l4d, tw_l4e, tw_l7a, tw_l7b, tw_l7c, tw_l7d, tw_l7e, tw_l31a, tw_l31b, tw_l31c, tw_l31d, tw_l31e, tw_l32a, tw_l32b, tw_l32c, tw_l32d, tw_l32e, tw_l63a, tw_l63b, tw_l63c, tw_l63d, tw_l63e, tw_l64a, tw_l64b, tw_l64c, tw_l64d, tw_l64e, true_implies, forall_const, not_true_eq_false, not_false_eq_true, false_implies, and_true, true_and, implies_true, and_self]
    refine yw_deep ok R ht (by omega) ?_
    by_cases y : tk_dp (N t) (S t) (E t) p ≤ 0
    · have e1 : tk_cv (N t) (S t) (E t) p = false := decide_eq_false (by omega)
      have K := ih (p + 1) (by omega) (upd mk p 0) (tw_mk (by rw [e1]; rfl) h) f (by omega)
      simp (disch := omega) only [y, tw_n0, forall_eq, nI_leI, nI_ltI, nI_eq, vp_in_nI, nI_clamp, nI_1, nI_add, tw_32, tw_32r, tw_p, sb_m1, tw_s1, tw_65, Nat.add_sub_cancel, tw_l0a, tw_l0b, tw_l0c, tw_l0d, tw_l0e, tw_l1a, tw_l1b, tw_l1c, tw_l1d, tw_l1e, tw_l2a, tw_l2b, tw_l2c, tw_l2d, tw_l2e, tw_l3a, tw_l3b, tw_l3c, tw_l3d, tw_l3e, tw_l4a, tw_l4b, tw_l4c, tw_l4d, tw_l4e, tw_l7a, tw_l7b, tw_l7c, tw_l7d, tw_l7e, tw_l31a, tw_l31b, tw_l31c, tw_l31d, tw_l31e, tw_l32a, tw_l32b, tw_l32c, tw_l32d, tw_l32e, tw_l63a, tw_l63b, tw_l63c, tw_l63d, tw_l63e, tw_l64a, tw_l64b, tw_l64c, tw_l64d, tw_l64e, true_implies, forall_const, not_true_eq_false, not_false_eq_true, false_implies, and_true, true_and, implies_true, and_self]
      exact K
    · have e1 : tk_cv (N t) (S t) (E t) p = true := decide_eq_true (by omega)
      have K := ih (p + 1) (by omega) (upd mk p 1) (tw_mk (by rw [e1]; rfl) h) f (by omega)
      simp (disch := omega) only [y, tw_n1, forall_eq, nI_leI, nI_ltI, nI_eq, vp_in_nI, nI_clamp, nI_1, nI_add, tw_32, tw_32r, tw_p, sb_m1, tw_s1, tw_65, Nat.add_sub_cancel, tw_l0a, tw_l0b, tw_l0c, tw_l0d, tw_l0e, tw_l1a, tw_l1b, tw_l1c, tw_l1d, tw_l1e, tw_l2a, tw_l2b, tw_l2c, tw_l2d, tw_l2e, tw_l3a, tw_l3b, tw_l3c, tw_l3d, tw_l3e, tw_l4a, tw_l4b, tw_l4c, tw_l4d, tw_l4e, tw_l7a, tw_l7b, tw_l7c, tw_l7d, tw_l7e, tw_l31a, tw_l31b, tw_l31c, tw_l31d, tw_l31e, tw_l32a, tw_l32b, tw_l32c, tw_l32d, tw_l32e, tw_l63a, tw_l63b, tw_l63c, tw_l63d, tw_l63e, tw_l64a, tw_l64b, tw_l64c, tw_l64d, tw_l64e, true_implies, forall_const, not_true_eq_false, not_false_eq_true, false_implies, and_true, true_and, implies_true, and_self]
      exact K
def tk_C (n : Nat) (s e : Nat → Nat) : Nat → Bool := fun p => decide (p < 64) && !(tk_cv n s e p)
theorem yw_com {post : Int32 → SY → Prop} {ys ye yz : Nat → Int32} {N : Nat → Nat} {S E : Nat → Nat → Nat} {t : Nat} (ok : tk_ok N S E) (R : tk_rx N S E ys ye yz) (ht : t < 3)
    (hp : ∀ (c : Nat) (s e : Nat → Nat) (ys ye yz mk : Nat → Int32), tk_nf c s e (tk_C (N t) (S t) (E t)) 65 → tk_ok (tk_st N t c) (tk_st S t s) (tk_st E t e) → tk_rx (tk_st N t c) (tk_st S t s) (tk_st E t e) ys ye yz → post (nI c) (ys, ye, yz, mk)) :
    ∀ m p, p + m = 64 → ∀ mk : Nat → Int32, (∀ q, q < p → mk q = tw_b (tk_C (N t) (S t) (E t) q)) → ∀ f, m < f → wY_complement_12 post (nI t) f (nI p) ys ye yz mk := by
  intro m
  induction m with
  | zero =>
    intro p hm mk h f hf
    obtain ⟨f, rfl⟩ : ∃ g, f = g + 1 := ⟨f - 1, by omega⟩
    have g0 : 64 ≤ p := by omega
    simp (disch := omega) only [wY_complement_12, g0, forall_eq, nI_leI, nI_ltI, nI_eq, vp_in_nI, nI_clamp, nI_1, nI_add, tw_32, tw_32r, tw_p, sb_m1, tw_s1, tw_65, Nat.add_sub_cancel, tw_l0a, tw_l0b, tw_l0c, tw_l0d, tw_l0e, tw_l1a, tw_l1b, tw_l1c, tw_l1d, tw_l1e, tw_l2a, tw_l2b, tw_l2c, tw_l2d, tw_l2e, tw_l3a, tw_l3b, tw_l3c, tw_l3d, tw_l3e, tw_l4a, tw_l4b, tw_l4c, tw_l4d, tw_l4e, tw_l7a, tw_l7b, tw_l7c, tw_l7d, tw_l7e, tw_l31a, tw_l31b, tw_l31c, tw_l31d, tw_l31e, tw_l32a, tw_l32b, tw_l32c, tw_l32d, tw_l32e, tw_l63a, tw_l63b, tw_l63c, tw_l63d, tw_l63e, tw_l64a, tw_l64b, tw_l64c, tw_l64d, tw_l64e, true_implies, forall_const, not_true_eq_false, not_false_eq_true, false_implies, and_true, true_and, implies_true, and_self]
    exact yw_runs ok R ht (fun q hq => by unfold tk_C; rw [decide_eq_false (by omega), Bool.false_and]) (fun q hq => h q (by omega)) (fun c s e ys ye yz nf ok' R' => hp c s e ys ye yz mk nf ok' R')
  | succ m ih =>
    intro p hm mk h f hf
    obtain ⟨f, rfl⟩ : ∃ g, f = g + 1 := ⟨f - 1, by omega⟩
    have g0 : ¬ 64 ≤ p := by omega
    have dl := tk_dp_le (N t) (S t) (E t) p
    have nl := (ok t ht).1
    have ec : tk_C (N t) (S t) (E t) p = !(tk_cv (N t) (S t) (E t) p) := by unfold tk_C; rw [decide_eq_true (by omega), Bool.true_and]
    simp (disch := omega) only [wY_complement_12, g0, forall_eq, nI_leI, nI_ltI, nI_eq, vp_in_nI, nI_clamp, nI_1, nI_add, tw_32, tw_32r, tw_p, sb_m1, tw_s1, tw_65, Nat.add_sub_cancel, tw_l0a, tw_l0b, tw_l0c, tw_l0d, tw_l0e, tw_l1a, tw_l1b, tw_l1c, tw_l1d, tw_l1e, tw_l2a, tw_l2b, tw_l2c, tw_l2d, tw_l2e, tw_l3a, tw_l3b, tw_l3c, tw_l3d, tw_l3e, tw_l4a, tw_l4b, tw_l4c, tw_l4d, tw_l4e, tw_l7a, tw_l7b, tw_l7c, tw_l7d, tw_l7e, tw_l31a, tw_l31b, tw_l31c, tw_l31d, tw_l31e, tw_l32a, tw_l32b, tw_l32c, tw_l32d, tw_l32e, tw_l63a, tw_l63b, tw_l63c, tw_l63d, tw_l63e, tw_l64a, tw_l64b, tw_l64c, tw_l64d, tw_l64e, true_implies, forall_const, not_true_eq_false, not_false_eq_true, false_implies, and_true, true_and, implies_true, and_self]
    refine yw_deep ok R ht (by omega) ?_
    by_cases y : tk_dp (N t) (S t) (E t) p = 0
    · have e1 : tk_cv (N t) (S t) (E t) p = false := decide_eq_false (by omega)
      have K := ih (p + 1) (by omega) (upd mk p 1) (tw_mk (by rw [ec, e1]; rfl) h) f (by omega)
      simp (disch := omega) only [eq_true y, tw_n1, forall_eq, nI_leI, nI_ltI, nI_eq, vp_in_nI, nI_clamp, nI_1, nI_add, tw_32, tw_32r, tw_p, sb_m1, tw_s1, tw_65, Nat.add_sub_cancel, tw_l0a, tw_l0b, tw_l0c, tw_l0d, tw_l0e, tw_l1a, tw_l1b, tw_l1c, tw_l1d, tw_l1e, tw_l2a, tw_l2b, tw_l2c, tw_l2d, tw_l2e, tw_l3a, tw_l3b, tw_l3c, tw_l3d, tw_l3e, tw_l4a, tw_l4b, tw_l4c, tw_l4d, tw_l4e, tw_l7a, tw_l7b, tw_l7c, tw_l7d, tw_l7e, tw_l31a, tw_l31b, tw_l31c, tw_l31d, tw_l31e, tw_l32a, tw_l32b, tw_l32c, tw_l32d, tw_l32e, tw_l63a, tw_l63b, tw_l63c, tw_l63d, tw_l63e, tw_l64a, tw_l64b, tw_l64c, tw_l64d, tw_l64e, true_implies, forall_const, not_true_eq_false, not_false_eq_true, false_implies, and_true, true_and, implies_true, and_self]
      exact K
    · have e1 : tk_cv (N t) (S t) (E t) p = true := decide_eq_true (by omega)
      have K := ih (p + 1) (by omega) (upd mk p 0) (tw_mk (by rw [ec, e1]; rfl) h) f (by omega)
      simp (disch := omega) only [y, tw_n0, forall_eq, nI_leI, nI_ltI, nI_eq, vp_in_nI, nI_clamp, nI_1, nI_add, tw_32, tw_32r, tw_p, sb_m1, tw_s1, tw_65, Nat.add_sub_cancel, tw_l0a, tw_l0b, tw_l0c, tw_l0d, tw_l0e, tw_l1a, tw_l1b, tw_l1c, tw_l1d, tw_l1e, tw_l2a, tw_l2b, tw_l2c, tw_l2d, tw_l2e, tw_l3a, tw_l3b, tw_l3c, tw_l3d, tw_l3e, tw_l4a, tw_l4b, tw_l4c, tw_l4d, tw_l4e, tw_l7a, tw_l7b, tw_l7c, tw_l7d, tw_l7e, tw_l31a, tw_l31b, tw_l31c, tw_l31d, tw_l31e, tw_l32a, tw_l32b, tw_l32c, tw_l32d, tw_l32e, tw_l63a, tw_l63b, tw_l63c, tw_l63d, tw_l63e, tw_l64a, tw_l64b, tw_l64c, tw_l64d, tw_l64e, true_implies, forall_const, not_true_eq_false, not_false_eq_true, false_implies, and_true, true_and, implies_true, and_self]
      exact K
theorem tw_01f : ((0 : Int32) = 1) = False := eq_false (by decide)
theorem tw_k01 : (nI 0 = 1) = False := eq_false (by decide)
theorem tw_k02 : (nI 0 = 2) = False := eq_false (by decide)
theorem tw_k03 : (nI 0 = 3) = False := eq_false (by decide)
theorem tw_k10 : (nI 1 = 0) = False := eq_false (by decide)
theorem tw_k12 : (nI 1 = 2) = False := eq_false (by decide)
theorem tw_k13 : (nI 1 = 3) = False := eq_false (by decide)
theorem tw_k20 : (nI 2 = 0) = False := eq_false (by decide)
theorem tw_k21 : (nI 2 = 1) = False := eq_false (by decide)
theorem tw_k23 : (nI 2 = 3) = False := eq_false (by decide)
theorem tw_k30 : (nI 3 = 0) = False := eq_false (by decide)
theorem tw_k31 : (nI 3 = 1) = False := eq_false (by decide)
theorem tw_k32 : (nI 3 = 2) = False := eq_false (by decide)
theorem tw_k00 : (nI 0 = 0) = True := eq_true (by decide)
theorem tw_k11 : (nI 1 = 1) = True := eq_true (by decide)
theorem tw_k22 : (nI 2 = 2) = True := eq_true (by decide)
theorem tw_k33 : (nI 3 = 3) = True := eq_true (by decide)
theorem yw_72 {post : Int32 → SY → Prop} {J : Int32 → (Nat → Int32) → (Nat → Int32) → (Nat → Int32) → (Nat → Int32) → Prop} {ys ye yz mk : Nat → Int32} {x2 x3 : Int32} {k p : Nat} {a b : Bool} (hk : k < 4) (hp : p < 64) (H : J (nI (p + 1)) ys ye yz (upd mk p (tw_b (tk_hd k a b)))) : wY_join_72 post J (nI k) x2 x3 (nI p) (tw_b a) (tw_b b) ys ye yz mk := by
  have c : k = 0 ∨ k = 1 ∨ k = 2 ∨ k = 3 := by omega
  rcases c with c | c | c | c <;> subst c <;> cases a <;> cases b <;>
    (simp (disch := omega) only [wY_join_72, wY_join_98, wY_join_99, wY_join_100, wY_join_121, wY_join_126, wY_join_127, wY_join_150, wY_join_151, tw_bt, tw_bf, tw_n0, tw_n1, eq_self, tw_10f, tw_01f, tw_k00, tw_k01, tw_k02, tw_k03, tw_k10, tw_k11, tw_k12, tw_k13, tw_k20, tw_k21, tw_k22, tw_k23, tw_k30, tw_k31, tw_k32, tw_k33, forall_eq, nI_1, vp_in_nI, nI_clamp, true_implies, forall_const, not_true_eq_false, not_false_eq_true, false_implies, and_true, true_and, implies_true, and_self]; exact H)
theorem yw_joi {post : Int32 → SY → Prop} {ys ye yz : Nat → Int32} {N : Nat → Nat} {S E : Nat → Nat → Nat} {k t u : Nat} (hk : k < 4) (ok : tk_ok N S E) (R : tk_rx N S E ys ye yz) (ht : t < 3) (hu : u < 3)
    (hp : ∀ (c : Nat) (s e : Nat → Nat) (ys ye yz mk : Nat → Int32), tk_nf c s e (tk_W k (tk_cv (N t) (S t) (E t)) (tk_cv (N u) (S u) (E u))) 65 → tk_ok (tk_st N t c) (tk_st S t s) (tk_st E t e) → tk_rx (tk_st N t c) (tk_st S t s) (tk_st E t e) ys ye yz → post (nI c) (ys, ye, yz, mk)) :
    ∀ m p, p + m = 64 → ∀ mk : Nat → Int32, (∀ q, q < p → mk q = tw_b (tk_W k (tk_cv (N t) (S t) (E t)) (tk_cv (N u) (S u) (E u)) q)) → ∀ f, m < f → wY_join_33 post (nI k) (nI t) (nI u) f (nI p) ys ye yz mk := by
  intro m
  induction m with
  | zero =>
    intro p hm mk h f hf
    obtain ⟨f, rfl⟩ : ∃ g, f = g + 1 := ⟨f - 1, by omega⟩
    have g0 : 64 ≤ p := by omega
    simp (disch := omega) only [wY_join_33, g0, forall_eq, nI_leI, nI_ltI, nI_eq, vp_in_nI, nI_clamp, nI_1, nI_add, tw_32, tw_32r, tw_p, sb_m1, tw_s1, tw_65, Nat.add_sub_cancel, tw_l0a, tw_l0b, tw_l0c, tw_l0d, tw_l0e, tw_l1a, tw_l1b, tw_l1c, tw_l1d, tw_l1e, tw_l2a, tw_l2b, tw_l2c, tw_l2d, tw_l2e, tw_l3a, tw_l3b, tw_l3c, tw_l3d, tw_l3e, tw_l4a, tw_l4b, tw_l4c, tw_l4d, tw_l4e, tw_l7a, tw_l7b, tw_l7c, tw_l7d, tw_l7e, tw_l31a, tw_l31b, tw_l31c, tw_l31d, tw_l31e, tw_l32a, tw_l32b, tw_l32c, tw_l32d, tw_l32e, tw_l63a, tw_l63b, tw_l63c, tw_l63d, tw_l63e, tw_l64a, tw_l64b, tw_l64c, tw_l64d, tw_l64e, true_implies, forall_const, not_true_eq_false, not_false_eq_true, false_implies, and_true, true_and, implies_true, and_self]
    exact yw_runs ok R ht (fun q hq => tk_W_hi hq) (fun q hq => h q (by omega)) (fun c s e ys ye yz nf ok' R' => hp c s e ys ye yz mk nf ok' R')
  | succ m ih =>
    intro p hm mk h f hf
    obtain ⟨f, rfl⟩ : ∃ g, f = g + 1 := ⟨f - 1, by omega⟩
    have g0 : ¬ 64 ≤ p := by omega
    have dl := tk_dp_le (N t) (S t) (E t) p
    have nl := (ok t ht).1
    have dl2 := tk_dp_le (N u) (S u) (E u) p
    have nl2 := (ok u hu).1
    have K := ih (p + 1) (by omega) (upd mk p (tw_b (tk_hd k (tk_cv (N t) (S t) (E t) p) (tk_cv (N u) (S u) (E u) p)))) (tw_mk (by rw [tk_W_lo (by omega)]) h) f (by omega)
    have K55 : wY_join_55 post (wY_join_33 post (nI k) (nI t) (nI u) f) (nI k) (nI t) (nI u) (nI p) (tw_b (tk_cv (N t) (S t) (E t) p)) ys ye yz mk := by
      unfold wY_join_55
      refine yw_deep ok R hu (by omega) ?_
      by_cases y : tk_dp (N u) (S u) (E u) p ≤ 0
      · have e1 : tk_cv (N u) (S u) (E u) p = false := decide_eq_false (by omega)
        rw [e1] at K
        refine br_t (nI_le (b := 0) y (by decide)) (yw_72 (b := false) hk (by omega) K)
      · have e1 : tk_cv (N u) (S u) (E u) p = true := decide_eq_true (by omega)
        rw [e1] at K
        refine br_f (nI_nle (by omega) (by omega)) (yw_72 (b := true) hk (by omega) K)
    simp (disch := omega) only [wY_join_33, g0, forall_eq, nI_leI, nI_ltI, nI_eq, vp_in_nI, nI_clamp, nI_1, nI_add, tw_32, tw_32r, tw_p, sb_m1, tw_s1, tw_65, Nat.add_sub_cancel, tw_l0a, tw_l0b, tw_l0c, tw_l0d, tw_l0e, tw_l1a, tw_l1b, tw_l1c, tw_l1d, tw_l1e, tw_l2a, tw_l2b, tw_l2c, tw_l2d, tw_l2e, tw_l3a, tw_l3b, tw_l3c, tw_l3d, tw_l3e, tw_l4a, tw_l4b, tw_l4c, tw_l4d, tw_l4e, tw_l7a, tw_l7b, tw_l7c, tw_l7d, tw_l7e, tw_l31a, tw_l31b, tw_l31c, tw_l31d, tw_l31e, tw_l32a, tw_l32b, tw_l32c, tw_l32d, tw_l32e, tw_l63a, tw_l63b, tw_l63c, tw_l63d, tw_l63e, tw_l64a, tw_l64b, tw_l64c, tw_l64d, tw_l64e, true_implies, forall_const, not_true_eq_false, not_false_eq_true, false_implies, and_true, true_and, implies_true, and_self]
    refine yw_deep ok R ht (by omega) ?_
    by_cases y : tk_dp (N t) (S t) (E t) p ≤ 0
    · have e1 : tk_cv (N t) (S t) (E t) p = false := decide_eq_false (by omega)
      rw [e1] at K55
      exact br_t (nI_le (b := 0) y (by decide)) K55
    · have e1 : tk_cv (N t) (S t) (E t) p = true := decide_eq_true (by omega)
      rw [e1] at K55
      exact br_f (nI_nle (by omega) (by omega)) K55
/-! copy, both sides -/
theorem yw_cp {post : Int32 → SY → Prop} {yz mk : Nat → Int32} {t u n : Nat} (ht : t < 3) (hu : u < 3) (hz : yz u = nI n) :
    ∀ m k, k + m = 32 → ∀ ys ye : Nat → Int32, post (nI n) (tk_cw ys (32 * t) (32 * u) k 32, tk_cw ye (32 * t) (32 * u) k 32, upd yz t (nI n), mk) →
    ∀ f, m < f → wY_copy_20 post (nI t) (nI u) f (nI k) ys ye yz mk := by
  intro m
  induction m with
  | zero =>
    intro k hk ys ye hp f hf
    obtain ⟨f, rfl⟩ : ∃ g, f = g + 1 := ⟨f - 1, by omega⟩
    have g0 : 32 ≤ k := by omega
    rw [tk_cw_0 g0, tk_cw_0 g0] at hp
    simp (disch := omega) only [wY_copy_20, g0, hz, pk_us, forall_eq, nI_leI, nI_ltI, nI_eq, vp_in_nI, nI_clamp, nI_1, nI_add, tw_32, tw_32r, tw_p, sb_m1, tw_s1, tw_65, Nat.add_sub_cancel, tw_l0a, tw_l0b, tw_l0c, tw_l0d, tw_l0e, tw_l1a, tw_l1b, tw_l1c, tw_l1d, tw_l1e, tw_l2a, tw_l2b, tw_l2c, tw_l2d, tw_l2e, tw_l3a, tw_l3b, tw_l3c, tw_l3d, tw_l3e, tw_l4a, tw_l4b, tw_l4c, tw_l4d, tw_l4e, tw_l7a, tw_l7b, tw_l7c, tw_l7d, tw_l7e, tw_l31a, tw_l31b, tw_l31c, tw_l31d, tw_l31e, tw_l32a, tw_l32b, tw_l32c, tw_l32d, tw_l32e, tw_l63a, tw_l63b, tw_l63c, tw_l63d, tw_l63e, tw_l64a, tw_l64b, tw_l64c, tw_l64d, tw_l64e, true_implies, forall_const, not_true_eq_false, not_false_eq_true, false_implies, and_true, true_and, implies_true, and_self]
    exact hp
  | succ m ih =>
    intro k hk ys ye hp f hf
    obtain ⟨f, rfl⟩ : ∃ g, f = g + 1 := ⟨f - 1, by omega⟩
    have g0 : ¬ 32 ≤ k := by omega
    have K := ih (k + 1) (by omega) (upd ys (32 * t + k) (ys (32 * u + k))) (upd ye (32 * t + k) (ye (32 * u + k))) (by
      rw [tk_cw_S (by omega) (by omega), tk_cw_S (by omega) (by omega)]; exact hp) f (by omega)
    simp (disch := omega) only [wY_copy_20, g0, forall_eq, nI_leI, nI_ltI, nI_eq, vp_in_nI, nI_clamp, nI_1, nI_add, tw_32, tw_32r, tw_p, sb_m1, tw_s1, tw_65, Nat.add_sub_cancel, tw_l0a, tw_l0b, tw_l0c, tw_l0d, tw_l0e, tw_l1a, tw_l1b, tw_l1c, tw_l1d, tw_l1e, tw_l2a, tw_l2b, tw_l2c, tw_l2d, tw_l2e, tw_l3a, tw_l3b, tw_l3c, tw_l3d, tw_l3e, tw_l4a, tw_l4b, tw_l4c, tw_l4d, tw_l4e, tw_l7a, tw_l7b, tw_l7c, tw_l7d, tw_l7e, tw_l31a, tw_l31b, tw_l31c, tw_l31d, tw_l31e, tw_l32a, tw_l32b, tw_l32c, tw_l32d, tw_l32e, tw_l63a, tw_l63b, tw_l63c, tw_l63d, tw_l63e, tw_l64a, tw_l64b, tw_l64c, tw_l64d, tw_l64e, true_implies, forall_const, not_true_eq_false, not_false_eq_true, false_implies, and_true, true_and, implies_true, and_self]
    exact K
theorem xw_cp {post : Int32 → SX → Prop} {fr fo fh fb : Int32} {xz ho li fi mi hs sk ru rv ou ov sp : Nat → Int32} {t u n : Nat} (ht : t < 3) (hu : u < 3) (hn : n ≤ 32) (hz : xz u = nI n) (hz2 : xz t = nI n) :
    ∀ m k, k + m = n → ∀ xs xe : Nat → Int32, post (nI n) (fr, fo, fh, -1, tk_cw xs (32 * t) (32 * u) k n, tk_cw xe (32 * t) (32 * u) k n, xz, ho, li, fi, mi, hs, sk, ru, rv, ou, ov, sp) →
    ∀ f, m < f → wX_copy_30 post (nI t) (nI u) fr fo fh fb f (nI k) xs xe xz ho li fi mi hs sk ru rv ou ov sp := by
  intro m
  induction m with
  | zero =>
    intro k hk xs xe hp f hf
    obtain ⟨f, rfl⟩ : ∃ g, f = g + 1 := ⟨f - 1, by omega⟩
    have g0 : n ≤ k := by omega
    rw [tk_cw_0 g0, tk_cw_0 g0] at hp
    simp (disch := omega) only [wX_copy_30, g0, hz, hz2, forall_eq, nI_leI, nI_ltI, nI_eq, vp_in_nI, nI_clamp, nI_1, nI_add, tw_32, tw_32r, tw_p, sb_m1, tw_s1, tw_65, Nat.add_sub_cancel, tw_l0a, tw_l0b, tw_l0c, tw_l0d, tw_l0e, tw_l1a, tw_l1b, tw_l1c, tw_l1d, tw_l1e, tw_l2a, tw_l2b, tw_l2c, tw_l2d, tw_l2e, tw_l3a, tw_l3b, tw_l3c, tw_l3d, tw_l3e, tw_l4a, tw_l4b, tw_l4c, tw_l4d, tw_l4e, tw_l7a, tw_l7b, tw_l7c, tw_l7d, tw_l7e, tw_l31a, tw_l31b, tw_l31c, tw_l31d, tw_l31e, tw_l32a, tw_l32b, tw_l32c, tw_l32d, tw_l32e, tw_l63a, tw_l63b, tw_l63c, tw_l63d, tw_l63e, tw_l64a, tw_l64b, tw_l64c, tw_l64d, tw_l64e, true_implies, forall_const, not_true_eq_false, not_false_eq_true, false_implies, and_true, true_and, implies_true, and_self]
    exact hp
  | succ m ih =>
    intro k hk xs xe hp f hf
    obtain ⟨f, rfl⟩ : ∃ g, f = g + 1 := ⟨f - 1, by omega⟩
    have g0 : ¬ n ≤ k := by omega
    have K := ih (k + 1) (by omega) (upd xs (32 * t + k) (xs (32 * u + k))) (upd xe (32 * t + k) (xe (32 * u + k))) (by
      rw [tk_cw_S (by omega) (by omega), tk_cw_S (by omega) (by omega)]; exact hp) f (by omega)
    simp (disch := omega) only [wX_copy_30, g0, hz, forall_eq, nI_leI, nI_ltI, nI_eq, vp_in_nI, nI_clamp, nI_1, nI_add, tw_32, tw_32r, tw_p, sb_m1, tw_s1, tw_65, Nat.add_sub_cancel, tw_l0a, tw_l0b, tw_l0c, tw_l0d, tw_l0e, tw_l1a, tw_l1b, tw_l1c, tw_l1d, tw_l1e, tw_l2a, tw_l2b, tw_l2c, tw_l2d, tw_l2e, tw_l3a, tw_l3b, tw_l3c, tw_l3d, tw_l3e, tw_l4a, tw_l4b, tw_l4c, tw_l4d, tw_l4e, tw_l7a, tw_l7b, tw_l7c, tw_l7d, tw_l7e, tw_l31a, tw_l31b, tw_l31c, tw_l31d, tw_l31e, tw_l32a, tw_l32b, tw_l32c, tw_l32d, tw_l32e, tw_l63a, tw_l63b, tw_l63c, tw_l63d, tw_l63e, tw_l64a, tw_l64b, tw_l64c, tw_l64d, tw_l64e, true_implies, forall_const, not_true_eq_false, not_false_eq_true, false_implies, and_true, true_and, implies_true, and_self]
    exact K
end
section
/-! Y's questions by counting -/
theorem yw_me {post : Int32 → Prop} {ys ye yz mk : Nat → Int32} {t n i a b : Nat} {s e : Nat → Nat} (ht : t < 3) (hn : n ≤ 32) (hi : i < n) (hab : a < b) (hb : b ≤ 64) (hso : tk_so n s e) (hx : ∀ j, j < n → ys (32 * t + j) = nI (s j) ∧ ye (32 * t + j) = nI (e j)) (h : post (tw_b (tk_hp s e a b i))) :
    ∀ m q, q + m = b → a ≤ q → (∀ p, a ≤ p → p < q → ¬ (s i ≤ p ∧ p < e i)) → ∀ f, m < f → wY_meets_3 post (nI t) (nI i) (nI b) ys ye yz mk f (nI q) := by
  have i1 := (hx i hi).1
  have i2 := (hx i hi).2
  have b0 := hso.1 i hi
  intro m
  induction m with
  | zero =>
    intro q hm ha hq f hf
    obtain ⟨f, rfl⟩ : ∃ g, f = g + 1 := ⟨f - 1, by omega⟩
    have e0 : q = b := by omega
    subst e0
    have g0 : q ≤ q := Nat.le_refl _
    have hf : tk_hp s e a q i = false := by
      refine decide_eq_false (fun z => ?_)
      by_cases y : s i ≤ a
      · exact hq a (Nat.le_refl _) hab ⟨y, z.2⟩
      · exact hq (s i) (by omega) z.1 ⟨Nat.le_refl _, b0.1⟩
    rw [hf, tw_bf] at h
    simp (disch := omega) only [wY_meets_3, g0, forall_eq, nI_leI, nI_ltI, nI_eq, vp_in_nI, nI_clamp, nI_1, nI_add, tw_32, tw_32r, tw_p, sb_m1, tw_s1, tw_65, Nat.add_sub_cancel, tw_l0a, tw_l0b, tw_l0c, tw_l0d, tw_l0e, tw_l1a, tw_l1b, tw_l1c, tw_l1d, tw_l1e, tw_l2a, tw_l2b, tw_l2c, tw_l2d, tw_l2e, tw_l3a, tw_l3b, tw_l3c, tw_l3d, tw_l3e, tw_l4a, tw_l4b, tw_l4c, tw_l4d, tw_l4e, tw_l7a, tw_l7b, tw_l7c, tw_l7d, tw_l7e, tw_l31a, tw_l31b, tw_l31c, tw_l31d, tw_l31e, tw_l32a, tw_l32b, tw_l32c, tw_l32d, tw_l32e, tw_l63a, tw_l63b, tw_l63c, tw_l63d, tw_l63e, tw_l64a, tw_l64b, tw_l64c, tw_l64d, tw_l64e, true_implies, forall_const, not_true_eq_false, not_false_eq_true, false_implies, and_true, true_and, implies_true, and_self]
    exact h
  | succ m ih =>
    intro q hm ha hq f hf
    obtain ⟨f, rfl⟩ : ∃ g, f = g + 1 := ⟨f - 1, by omega⟩
    have g0 : ¬ b ≤ q := by omega
    have nx : ¬ (s i ≤ q ∧ q < e i) → wY_meets_3 post (nI t) (nI i) (nI b) ys ye yz mk f (nI (q + 1)) := fun y => ih (q + 1) (by omega) (by omega) (fun p p1 p2 => by
      by_cases v : p = q
      · rw [v]; exact y
      · exact hq p p1 (by omega)) f (by omega)
    by_cases z1 : q < s i
    · have K := nx (by omega)
      simp (disch := omega) only [wY_meets_3, g0, i1, i2, z1, forall_eq, nI_leI, nI_ltI, nI_eq, vp_in_nI, nI_clamp, nI_1, nI_add, tw_32, tw_32r, tw_p, sb_m1, tw_s1, tw_65, Nat.add_sub_cancel, tw_l0a, tw_l0b, tw_l0c, tw_l0d, tw_l0e, tw_l1a, tw_l1b, tw_l1c, tw_l1d, tw_l1e, tw_l2a, tw_l2b, tw_l2c, tw_l2d, tw_l2e, tw_l3a, tw_l3b, tw_l3c, tw_l3d, tw_l3e, tw_l4a, tw_l4b, tw_l4c, tw_l4d, tw_l4e, tw_l7a, tw_l7b, tw_l7c, tw_l7d, tw_l7e, tw_l31a, tw_l31b, tw_l31c, tw_l31d, tw_l31e, tw_l32a, tw_l32b, tw_l32c, tw_l32d, tw_l32e, tw_l63a, tw_l63b, tw_l63c, tw_l63d, tw_l63e, tw_l64a, tw_l64b, tw_l64c, tw_l64d, tw_l64e, true_implies, forall_const, not_true_eq_false, not_false_eq_true, false_implies, and_true, true_and, implies_true, and_self]
      exact K
    · by_cases z2 : e i ≤ q
      · have K := nx (by omega)
        simp (disch := omega) only [wY_meets_3, g0, i1, i2, z1, z2, forall_eq, nI_leI, nI_ltI, nI_eq, vp_in_nI, nI_clamp, nI_1, nI_add, tw_32, tw_32r, tw_p, sb_m1, tw_s1, tw_65, Nat.add_sub_cancel, tw_l0a, tw_l0b, tw_l0c, tw_l0d, tw_l0e, tw_l1a, tw_l1b, tw_l1c, tw_l1d, tw_l1e, tw_l2a, tw_l2b, tw_l2c, tw_l2d, tw_l2e, tw_l3a, tw_l3b, tw_l3c, tw_l3d, tw_l3e, tw_l4a, tw_l4b, tw_l4c, tw_l4d, tw_l4e, tw_l7a, tw_l7b, tw_l7c, tw_l7d, tw_l7e, tw_l31a, tw_l31b, tw_l31c, tw_l31d, tw_l31e, tw_l32a, tw_l32b, tw_l32c, tw_l32d, tw_l32e, tw_l63a, tw_l63b, tw_l63c, tw_l63d, tw_l63e, tw_l64a, tw_l64b, tw_l64c, tw_l64d, tw_l64e, true_implies, forall_const, not_true_eq_false, not_false_eq_true, false_implies, and_true, true_and, implies_true, and_self]
        exact K
      · have ht : tk_hp s e a b i = true := decide_eq_true ⟨by omega, by omega⟩
        rw [ht, tw_bt] at h
        simp (disch := omega) only [wY_meets_3, g0, i1, i2, z1, z2, forall_eq, nI_leI, nI_ltI, nI_eq, vp_in_nI, nI_clamp, nI_1, nI_add, tw_32, tw_32r, tw_p, sb_m1, tw_s1, tw_65, Nat.add_sub_cancel, tw_l0a, tw_l0b, tw_l0c, tw_l0d, tw_l0e, tw_l1a, tw_l1b, tw_l1c, tw_l1d, tw_l1e, tw_l2a, tw_l2b, tw_l2c, tw_l2d, tw_l2e, tw_l3a, tw_l3b, tw_l3c, tw_l3d, tw_l3e, tw_l4a, tw_l4b, tw_l4c, tw_l4d, tw_l4e, tw_l7a, tw_l7b, tw_l7c, tw_l7d, tw_l7e, tw_l31a, tw_l31b, tw_l31c, tw_l31d, tw_l31e, tw_l32a, tw_l32b, tw_l32c, tw_l32d, tw_l32e, tw_l63a, tw_l63b, tw_l63c, tw_l63d, tw_l63e, tw_l64a, tw_l64b, tw_l64c, tw_l64d, tw_l64e, true_implies, forall_const, not_true_eq_false, not_false_eq_true, false_implies, and_true, true_and, implies_true, and_self]
        exact h
theorem yw_meets {post : Int32 → Prop} {ys ye yz mk : Nat → Int32} {N : Nat → Nat} {S E : Nat → Nat → Nat} {t i a b : Nat} (ok : tk_ok N S E) (R : tk_rx N S E ys ye yz) (ht : t < 3) (hi : i < N t) (hab : a < b) (hb : b ≤ 64) (h : post (tw_b (tk_hp (S t) (E t) a b i))) : wpY_meets post (ys, ye, yz, mk) (nI t) (nI i) (nI a) (nI b) := by
  unfold wpY_meets
  exact ⟨b - a + 1, yw_me ht (ok t ht).1 hi hab hb (ok t ht).2 (tw_pair R ht) h (b - a) a (by omega) (Nat.le_refl _) (fun p p1 p2 => by omega) _ (by omega)⟩
theorem yw_ovl {post : Int32 → Prop} {ys ye yz mk : Nat → Int32} {N : Nat → Nat} {S E : Nat → Nat → Nat} {t a b : Nat} (ok : tk_ok N S E) (R : tk_rx N S E ys ye yz) (ht : t < 3) (hab : a < b) (hb : b ≤ 64) (h : post (nI (tk_cb (tk_hp (S t) (E t) a b) (N t)))) :
    ∀ m i, i + m = N t → ∀ f, m < f → wY_overlapping_26 post (nI t) (nI (65 * a + b)) ys ye yz mk f (nI (tk_cb (tk_hp (S t) (E t) a b) i)) (nI i) := by
  have hn := (ok t ht).1
  have hz := R.1 t ht
  intro m
  induction m with
  | zero =>
    intro i hi f hf
    obtain ⟨f, rfl⟩ : ∃ g, f = g + 1 := ⟨f - 1, by omega⟩
    have e0 : i = N t := by omega
    have g0 : N t ≤ i := by omega
    rw [← e0] at h
    simp (disch := omega) only [wY_overlapping_26, g0, hz, forall_eq, nI_leI, nI_ltI, nI_eq, vp_in_nI, nI_clamp, nI_1, nI_add, tw_32, tw_32r, tw_p, sb_m1, tw_s1, tw_65, Nat.add_sub_cancel, tw_l0a, tw_l0b, tw_l0c, tw_l0d, tw_l0e, tw_l1a, tw_l1b, tw_l1c, tw_l1d, tw_l1e, tw_l2a, tw_l2b, tw_l2c, tw_l2d, tw_l2e, tw_l3a, tw_l3b, tw_l3c, tw_l3d, tw_l3e, tw_l4a, tw_l4b, tw_l4c, tw_l4d, tw_l4e, tw_l7a, tw_l7b, tw_l7c, tw_l7d, tw_l7e, tw_l31a, tw_l31b, tw_l31c, tw_l31d, tw_l31e, tw_l32a, tw_l32b, tw_l32c, tw_l32d, tw_l32e, tw_l63a, tw_l63b, tw_l63c, tw_l63d, tw_l63e, tw_l64a, tw_l64b, tw_l64c, tw_l64d, tw_l64e, true_implies, forall_const, not_true_eq_false, not_false_eq_true, false_implies, and_true, true_and, implies_true, and_self]
    exact h
  | succ m ih =>
    intro i hi f hf
    obtain ⟨f, rfl⟩ : ∃ g, f = g + 1 := ⟨f - 1, by omega⟩
    have g0 : ¬ N t ≤ i := by omega
    have K := ih (i + 1) (by omega) f (by omega)
    simp (disch := omega) only [wY_overlapping_26, g0, hz, tw_q65 hab hb, tw_r65, forall_eq, nI_leI, nI_ltI, nI_eq, vp_in_nI, nI_clamp, nI_1, nI_add, tw_32, tw_32r, tw_p, sb_m1, tw_s1, tw_65, Nat.add_sub_cancel, tw_l0a, tw_l0b, tw_l0c, tw_l0d, tw_l0e, tw_l1a, tw_l1b, tw_l1c, tw_l1d, tw_l1e, tw_l2a, tw_l2b, tw_l2c, tw_l2d, tw_l2e, tw_l3a, tw_l3b, tw_l3c, tw_l3d, tw_l3e, tw_l4a, tw_l4b, tw_l4c, tw_l4d, tw_l4e, tw_l7a, tw_l7b, tw_l7c, tw_l7d, tw_l7e, tw_l31a, tw_l31b, tw_l31c, tw_l31d, tw_l31e, tw_l32a, tw_l32b, tw_l32c, tw_l32d, tw_l32e, tw_l63a, tw_l63b, tw_l63c, tw_l63d, tw_l63e, tw_l64a, tw_l64b, tw_l64c, tw_l64d, tw_l64e, true_implies, forall_const, not_true_eq_false, not_false_eq_true, false_implies, and_true, true_and, implies_true, and_self]
    refine yw_meets ok R ht (by omega) hab hb ?_
    by_cases y : tk_hp (S t) (E t) a b i = true
    · rw [tk_cb_t y] at K
      rw [y]
      refine br_f tw_10 ?_
      exact K
    · rw [tk_cb_f y] at K
      rw [Bool.eq_false_iff.mpr y]
      refine br_t rfl ?_
      exact K
theorem yw_overlapping {post : Int32 → Prop} {ys ye yz mk : Nat → Int32} {N : Nat → Nat} {S E : Nat → Nat → Nat} {t a b : Nat} (ok : tk_ok N S E) (R : tk_rx N S E ys ye yz) (ht : t < 3) (hab : a < b) (hb : b ≤ 64) (h : post (nI (tk_cb (tk_hp (S t) (E t) a b) (N t)))) : wpY_overlapping post (ys, ye, yz, mk) (nI t) (nI (65 * a + b)) := by
  unfold wpY_overlapping
  exact tw_yT ht (br_t rfl (tw_ysT hab hb (br_t rfl ⟨N t + 1, yw_ovl ok R ht hab hb h (N t) 0 (by omega) _ (by omega)⟩)))
theorem yw_ov1 {post : Int32 → Prop} {ys ye yz mk : Nat → Int32} {N : Nat → Nat} {S E : Nat → Nat → Nat} {t a b : Nat} {x : Int32} (ok : tk_ok N S E) (R : tk_rx N S E ys ye yz) (ht : t < 3) (hab : a < b) (hb : b ≤ 64)
    (h1 : ∀ j, j < N t → tk_hp (S t) (E t) a b j = true → nI (tk_cb (tk_hp (S t) (E t) a b) j) = x → post (nI j)) (h2 : (∀ j, j < N t → tk_hp (S t) (E t) a b j = true → ¬ nI (tk_cb (tk_hp (S t) (E t) a b) j) = x) → post (-3)) :
    ∀ m i, i + m = N t → (∀ j, j < i → tk_hp (S t) (E t) a b j = true → ¬ nI (tk_cb (tk_hp (S t) (E t) a b) j) = x) → ∀ f, m < f → wY_overlap_27 post (nI t) (nI (65 * a + b)) x ys ye yz mk f (nI (tk_cb (tk_hp (S t) (E t) a b) i)) (nI i) := by
  have hn := (ok t ht).1
  have hz := R.1 t ht
  intro m
  induction m with
  | zero =>
    intro i hi hj f hf
    obtain ⟨f, rfl⟩ : ∃ g, f = g + 1 := ⟨f - 1, by omega⟩
    have e0 : i = N t := by omega
    have g0 : N t ≤ i := by omega
    simp (disch := omega) only [wY_overlap_27, g0, hz, forall_eq, nI_leI, nI_ltI, nI_eq, vp_in_nI, nI_clamp, nI_1, nI_add, tw_32, tw_32r, tw_p, sb_m1, tw_s1, tw_65, Nat.add_sub_cancel, tw_l0a, tw_l0b, tw_l0c, tw_l0d, tw_l0e, tw_l1a, tw_l1b, tw_l1c, tw_l1d, tw_l1e, tw_l2a, tw_l2b, tw_l2c, tw_l2d, tw_l2e, tw_l3a, tw_l3b, tw_l3c, tw_l3d, tw_l3e, tw_l4a, tw_l4b, tw_l4c, tw_l4d, tw_l4e, tw_l7a, tw_l7b, tw_l7c, tw_l7d, tw_l7e, tw_l31a, tw_l31b, tw_l31c, tw_l31d, tw_l31e, tw_l32a, tw_l32b, tw_l32c, tw_l32d, tw_l32e, tw_l63a, tw_l63b, tw_l63c, tw_l63d, tw_l63e, tw_l64a, tw_l64b, tw_l64c, tw_l64d, tw_l64e, true_implies, forall_const, not_true_eq_false, not_false_eq_true, false_implies, and_true, true_and, implies_true, and_self]
    exact h2 (fun j y => hj j (by omega))
  | succ m ih =>
    intro i hi hj f hf
    obtain ⟨f, rfl⟩ : ∃ g, f = g + 1 := ⟨f - 1, by omega⟩
    have g0 : ¬ N t ≤ i := by omega
    simp (disch := omega) only [wY_overlap_27, g0, hz, tw_q65 hab hb, tw_r65, forall_eq, nI_leI, nI_ltI, nI_eq, vp_in_nI, nI_clamp, nI_1, nI_add, tw_32, tw_32r, tw_p, sb_m1, tw_s1, tw_65, Nat.add_sub_cancel, tw_l0a, tw_l0b, tw_l0c, tw_l0d, tw_l0e, tw_l1a, tw_l1b, tw_l1c, tw_l1d, tw_l1e, tw_l2a, tw_l2b, tw_l2c, tw_l2d, tw_l2e, tw_l3a, tw_l3b, tw_l3c, tw_l3d, tw_l3e, tw_l4a, tw_l4b, tw_l4c, tw_l4d, tw_l4e, tw_l7a, tw_l7b, tw_l7c, tw_l7d, tw_l7e, tw_l31a, tw_l31b, tw_l31c, tw_l31d, tw_l31e, tw_l32a, tw_l32b, tw_l32c, tw_l32d, tw_l32e, tw_l63a, tw_l63b, tw_l63c, tw_l63d, tw_l63e, tw_l64a, tw_l64b, tw_l64c, tw_l64d, tw_l64e, true_implies, forall_const, not_true_eq_false, not_false_eq_true, false_implies, and_true, true_and, implies_true, and_self]
    refine yw_meets ok R ht (by omega) hab hb ?_
    by_cases y : tk_hp (S t) (E t) a b i = true
    · rw [y]
      refine br_f tw_10 ?_
      by_cases v : nI (tk_cb (tk_hp (S t) (E t) a b) i) = x
      · exact br_t v (h1 i (by omega) y v)
      · have K := ih (i + 1) (by omega) (fun j j1 j2 => by
          by_cases w : j = i
          · rw [w]; exact v
          · exact hj j (by omega) j2) f (by omega)
        rw [tk_cb_t y] at K
        refine br_f v ?_
        exact K
    · have K := ih (i + 1) (by omega) (fun j j1 j2 => by
        by_cases w : j = i
        · rw [w] at j2; exact absurd j2 y
        · exact hj j (by omega) j2) f (by omega)
      rw [tk_cb_f y] at K
      rw [Bool.eq_false_iff.mpr y]
      refine br_t rfl ?_
      exact K
def tk_ar (s e : Nat → Nat) (a b : Nat) : Nat → Bool := fun i => decide (s i ≤ a ∧ b ≤ e i)
theorem yw_aro {post : Int32 → Prop} {ys ye yz mk : Nat → Int32} {N : Nat → Nat} {S E : Nat → Nat → Nat} {t a b : Nat} (ok : tk_ok N S E) (R : tk_rx N S E ys ye yz) (ht : t < 3) (hab : a < b) (hb : b ≤ 64) (h : post (nI (tk_cb (tk_ar (S t) (E t) a b) (N t)))) :
    ∀ m i, i + m = N t → ∀ f, m < f → wY_around_26 post (nI t) (nI (65 * a + b)) ys ye yz mk f (nI (tk_cb (tk_ar (S t) (E t) a b) i)) (nI i) := by
  have hn := (ok t ht).1
  have hz := R.1 t ht
  intro m
  induction m with
  | zero =>
    intro i hi f hf
    obtain ⟨f, rfl⟩ : ∃ g, f = g + 1 := ⟨f - 1, by omega⟩
    have e0 : i = N t := by omega
    have g0 : N t ≤ i := by omega
    rw [← e0] at h
    simp (disch := omega) only [wY_around_26, g0, hz, forall_eq, nI_leI, nI_ltI, nI_eq, vp_in_nI, nI_clamp, nI_1, nI_add, tw_32, tw_32r, tw_p, sb_m1, tw_s1, tw_65, Nat.add_sub_cancel, tw_l0a, tw_l0b, tw_l0c, tw_l0d, tw_l0e, tw_l1a, tw_l1b, tw_l1c, tw_l1d, tw_l1e, tw_l2a, tw_l2b, tw_l2c, tw_l2d, tw_l2e, tw_l3a, tw_l3b, tw_l3c, tw_l3d, tw_l3e, tw_l4a, tw_l4b, tw_l4c, tw_l4d, tw_l4e, tw_l7a, tw_l7b, tw_l7c, tw_l7d, tw_l7e, tw_l31a, tw_l31b, tw_l31c, tw_l31d, tw_l31e, tw_l32a, tw_l32b, tw_l32c, tw_l32d, tw_l32e, tw_l63a, tw_l63b, tw_l63c, tw_l63d, tw_l63e, tw_l64a, tw_l64b, tw_l64c, tw_l64d, tw_l64e, true_implies, forall_const, not_true_eq_false, not_false_eq_true, false_implies, and_true, true_and, implies_true, and_self]
    exact h
  | succ m ih =>
    intro i hi f hf
    obtain ⟨f, rfl⟩ : ∃ g, f = g + 1 := ⟨f - 1, by omega⟩
    have g0 : ¬ N t ≤ i := by omega
    have K := ih (i + 1) (by omega) f (by omega)
    have i1 := R.2.1 t ht i (by omega)
    have i2 := R.2.2 t ht i (by omega)
    have b0 := (ok t ht).2.1 i (by omega)
    by_cases z1 : a < S t i
    · rw [tk_cb_f (fun y => by have y2 := of_decide_eq_true y; omega)] at K
      simp (disch := omega) only [wY_around_26, g0, hz, tw_q65 hab hb, tw_r65, i1, i2, z1, forall_eq, nI_leI, nI_ltI, nI_eq, vp_in_nI, nI_clamp, nI_1, nI_add, tw_32, tw_32r, tw_p, sb_m1, tw_s1, tw_65, Nat.add_sub_cancel, tw_l0a, tw_l0b, tw_l0c, tw_l0d, tw_l0e, tw_l1a, tw_l1b, tw_l1c, tw_l1d, tw_l1e, tw_l2a, tw_l2b, tw_l2c, tw_l2d, tw_l2e, tw_l3a, tw_l3b, tw_l3c, tw_l3d, tw_l3e, tw_l4a, tw_l4b, tw_l4c, tw_l4d, tw_l4e, tw_l7a, tw_l7b, tw_l7c, tw_l7d, tw_l7e, tw_l31a, tw_l31b, tw_l31c, tw_l31d, tw_l31e, tw_l32a, tw_l32b, tw_l32c, tw_l32d, tw_l32e, tw_l63a, tw_l63b, tw_l63c, tw_l63d, tw_l63e, tw_l64a, tw_l64b, tw_l64c, tw_l64d, tw_l64e, true_implies, forall_const, not_true_eq_false, not_false_eq_true, false_implies, and_true, true_and, implies_true, and_self]
      exact K
    · by_cases z2 : E t i < b
      · rw [tk_cb_f (fun y => by have y2 := of_decide_eq_true y; omega)] at K
        simp (disch := omega) only [wY_around_26, g0, hz, tw_q65 hab hb, tw_r65, i1, i2, z1, z2, forall_eq, nI_leI, nI_ltI, nI_eq, vp_in_nI, nI_clamp, nI_1, nI_add, tw_32, tw_32r, tw_p, sb_m1, tw_s1, tw_65, Nat.add_sub_cancel, tw_l0a, tw_l0b, tw_l0c, tw_l0d, tw_l0e, tw_l1a, tw_l1b, tw_l1c, tw_l1d, tw_l1e, tw_l2a, tw_l2b, tw_l2c, tw_l2d, tw_l2e, tw_l3a, tw_l3b, tw_l3c, tw_l3d, tw_l3e, tw_l4a, tw_l4b, tw_l4c, tw_l4d, tw_l4e, tw_l7a, tw_l7b, tw_l7c, tw_l7d, tw_l7e, tw_l31a, tw_l31b, tw_l31c, tw_l31d, tw_l31e, tw_l32a, tw_l32b, tw_l32c, tw_l32d, tw_l32e, tw_l63a, tw_l63b, tw_l63c, tw_l63d, tw_l63e, tw_l64a, tw_l64b, tw_l64c, tw_l64d, tw_l64e, true_implies, forall_const, not_true_eq_false, not_false_eq_true, false_implies, and_true, true_and, implies_true, and_self]
        exact K
      · rw [tk_cb_t (decide_eq_true (by omega))] at K
        simp (disch := omega) only [wY_around_26, g0, hz, tw_q65 hab hb, tw_r65, i1, i2, z1, z2, forall_eq, nI_leI, nI_ltI, nI_eq, vp_in_nI, nI_clamp, nI_1, nI_add, tw_32, tw_32r, tw_p, sb_m1, tw_s1, tw_65, Nat.add_sub_cancel, tw_l0a, tw_l0b, tw_l0c, tw_l0d, tw_l0e, tw_l1a, tw_l1b, tw_l1c, tw_l1d, tw_l1e, tw_l2a, tw_l2b, tw_l2c, tw_l2d, tw_l2e, tw_l3a, tw_l3b, tw_l3c, tw_l3d, tw_l3e, tw_l4a, tw_l4b, tw_l4c, tw_l4d, tw_l4e, tw_l7a, tw_l7b, tw_l7c, tw_l7d, tw_l7e, tw_l31a, tw_l31b, tw_l31c, tw_l31d, tw_l31e, tw_l32a, tw_l32b, tw_l32c, tw_l32d, tw_l32e, tw_l63a, tw_l63b, tw_l63c, tw_l63d, tw_l63e, tw_l64a, tw_l64b, tw_l64c, tw_l64d, tw_l64e, true_implies, forall_const, not_true_eq_false, not_false_eq_true, false_implies, and_true, true_and, implies_true, and_self]
        exact K
/-- X's: among the found ones -/
theorem xw_aro {post : Int32 → SX → Prop} {fr fo fb : Int32} {xs xe xz ho li fi mi hs sk ru rv ou ov sp : Nat → Int32} {t n b c : Nat} {e H : Nat → Nat} (ht : t < 3) (hn : n ≤ 32) (hb : b ≤ 64) (hc : c ≤ 32) (hH : ∀ k, k < c → H k < n) (he : ∀ i, i < n → e i ≤ 64) (hx : ∀ j, j < n → xe (32 * t + j) = nI (e j)) (hh : ∀ k, k < c → hs k = nI (H k))
    (h : post (nI (tk_cb (fun k => decide (b ≤ e (H k))) c)) (fr, fo, nI c, fb, xs, xe, xz, ho, li, fi, mi, hs, sk, ru, rv, ou, ov, sp)) :
    ∀ m k, k + m = c → ∀ f, m < f → wX_around_45 post (nI t) (nI b) fr fo (nI c) fb xs xe xz ho li fi mi hs sk ru rv ou ov sp f (nI (tk_cb (fun k => decide (b ≤ e (H k))) k)) (nI k) := by
  intro m
  induction m with
  | zero =>
    intro k hk f hf
    obtain ⟨f, rfl⟩ : ∃ g, f = g + 1 := ⟨f - 1, by omega⟩
    have e0 : k = c := by omega
    subst e0
    have g0 : k ≤ k := Nat.le_refl _
    simp (disch := omega) only [wX_around_45, g0, forall_eq, nI_leI, nI_ltI, nI_eq, vp_in_nI, nI_clamp, nI_1, nI_add, tw_32, tw_32r, tw_p, sb_m1, tw_s1, tw_65, Nat.add_sub_cancel, tw_l0a, tw_l0b, tw_l0c, tw_l0d, tw_l0e, tw_l1a, tw_l1b, tw_l1c, tw_l1d, tw_l1e, tw_l2a, tw_l2b, tw_l2c, tw_l2d, tw_l2e, tw_l3a, tw_l3b, tw_l3c, tw_l3d, tw_l3e, tw_l4a, tw_l4b, tw_l4c, tw_l4d, tw_l4e, tw_l7a, tw_l7b, tw_l7c, tw_l7d, tw_l7e, tw_l31a, tw_l31b, tw_l31c, tw_l31d, tw_l31e, tw_l32a, tw_l32b, tw_l32c, tw_l32d, tw_l32e, tw_l63a, tw_l63b, tw_l63c, tw_l63d, tw_l63e, tw_l64a, tw_l64b, tw_l64c, tw_l64d, tw_l64e, true_implies, forall_const, not_true_eq_false, not_false_eq_true, false_implies, and_true, true_and, implies_true, and_self]
    exact h
  | succ m ih =>
    intro k hk f hf
    obtain ⟨f, rfl⟩ : ∃ g, f = g + 1 := ⟨f - 1, by omega⟩
    have g0 : ¬ c ≤ k := by omega
    have i1 := hh k (by omega)
    have b1 := hH k (by omega)
    have i2 := hx (H k) b1
    have b2 := he (H k) b1
    have K := ih (k + 1) (by omega) f (by omega)
    by_cases z : e (H k) < b
    · rw [tk_cb_f (fun y => by have y2 := of_decide_eq_true y; omega)] at K
      simp (disch := omega) only [wX_around_45, g0, i1, i2, z, Int32.add_zero, forall_eq, nI_leI, nI_ltI, nI_eq, vp_in_nI, nI_clamp, nI_1, nI_add, tw_32, tw_32r, tw_p, sb_m1, tw_s1, tw_65, Nat.add_sub_cancel, tw_l0a, tw_l0b, tw_l0c, tw_l0d, tw_l0e, tw_l1a, tw_l1b, tw_l1c, tw_l1d, tw_l1e, tw_l2a, tw_l2b, tw_l2c, tw_l2d, tw_l2e, tw_l3a, tw_l3b, tw_l3c, tw_l3d, tw_l3e, tw_l4a, tw_l4b, tw_l4c, tw_l4d, tw_l4e, tw_l7a, tw_l7b, tw_l7c, tw_l7d, tw_l7e, tw_l31a, tw_l31b, tw_l31c, tw_l31d, tw_l31e, tw_l32a, tw_l32b, tw_l32c, tw_l32d, tw_l32e, tw_l63a, tw_l63b, tw_l63c, tw_l63d, tw_l63e, tw_l64a, tw_l64b, tw_l64c, tw_l64d, tw_l64e, true_implies, forall_const, not_true_eq_false, not_false_eq_true, false_implies, and_true, true_and, implies_true, and_self]
      exact K
    · rw [tk_cb_t (decide_eq_true (by omega))] at K
      simp (disch := omega) only [wX_around_45, g0, i1, i2, z, forall_eq, nI_leI, nI_ltI, nI_eq, vp_in_nI, nI_clamp, nI_1, nI_add, tw_32, tw_32r, tw_p, sb_m1, tw_s1, tw_65, Nat.add_sub_cancel, tw_l0a, tw_l0b, tw_l0c, tw_l0d, tw_l0e, tw_l1a, tw_l1b, tw_l1c, tw_l1d, tw_l1e, tw_l2a, tw_l2b, tw_l2c, tw_l2d, tw_l2e, tw_l3a, tw_l3b, tw_l3c, tw_l3d, tw_l3e, tw_l4a, tw_l4b, tw_l4c, tw_l4d, tw_l4e, tw_l7a, tw_l7b, tw_l7c, tw_l7d, tw_l7e, tw_l31a, tw_l31b, tw_l31c, tw_l31d, tw_l31e, tw_l32a, tw_l32b, tw_l32c, tw_l32d, tw_l32e, tw_l63a, tw_l63b, tw_l63c, tw_l63d, tw_l63e, tw_l64a, tw_l64b, tw_l64c, tw_l64d, tw_l64e, true_implies, forall_const, not_true_eq_false, not_false_eq_true, false_implies, and_true, true_and, implies_true, and_self]
      exact K
theorem tk_ar_eq {n c a b : Nat} {s e H : Nat → Nat} (hab : a < b) (en : tk_en c H n (tk_hp s e a (a + 1))) : tk_cb (fun k => decide (b ≤ e (H k))) c = tk_cb (tk_ar s e a b) n := by
  have key : ∀ k, k ≤ c → tk_cb (fun k => decide (b ≤ e (H k))) k = tk_cb (tk_ar s e a b) (if k = 0 then 0 else H (k - 1) + 1) := by
    intro k
    induction k with
    | zero => intro _; rfl
    | succ k ih =>
      intro hk
      have e1 := ih (by omega)
      have hk1 := en.1 k (by omega)
      have e2 : tk_cb (tk_ar s e a b) (H k) = tk_cb (tk_ar s e a b) (if k = 0 then 0 else H (k - 1) + 1) := by
        refine tk_cb_none (H k) ?_ (fun i h1 h2 h3 => ?_)
        · by_cases z : k = 0
          · rw [if_pos z]; omega
          · rw [if_neg z]
            have z2 := en.2.1 (k - 1) k (by omega) (by omega)
            omega
        · have h4 := of_decide_eq_true h3
          obtain ⟨m, m1, m2⟩ := en.2.2 i (by omega) (decide_eq_true ⟨by omega, by omega⟩)
          by_cases z : m < k
          · rw [if_neg (by omega)] at h1
            by_cases z2 : m = k - 1
            · rw [z2] at m2; omega
            · have z3 := en.2.1 m (k - 1) (by omega) (by omega)
              omega
          · by_cases z2 : m = k
            · rw [z2] at m2; omega
            · have z3 := en.2.1 k m (by omega) m1
              omega
      rw [if_neg (by omega), show k + 1 - 1 = k by omega]
      have h5 := of_decide_eq_true hk1.2
      by_cases y : b ≤ e (H k)
      · rw [tk_cb_t (decide_eq_true y), tk_cb_t (p := tk_ar s e a b) (decide_eq_true ⟨by omega, y⟩), e1, e2]
      · rw [tk_cb_f (fun z => y (of_decide_eq_true z)), tk_cb_f (p := tk_ar s e a b) (fun z => y (of_decide_eq_true z).2), e1, e2]
  rw [key c (Nat.le_refl _)]
  refine (tk_cb_none n ?_ (fun i h1 h2 h3 => ?_)).symm
  · by_cases z : c = 0
    · rw [if_pos z]; omega
    · rw [if_neg z]
      have z2 := en.1 (c - 1) (by omega)
      omega
  · have h4 := of_decide_eq_true h3
    obtain ⟨m, m1, m2⟩ := en.2.2 i (by omega) (decide_eq_true ⟨by omega, by omega⟩)
    rw [if_neg (by omega)] at h1
    by_cases z2 : m = c - 1
    · rw [z2] at m2; omega
    · have z3 := en.2.1 m (c - 1) (by omega) (by omega)
      omega
/-! depths: the deepest, and how far a depth is reached -/
def tk_mx (f : Nat → Nat) : Nat → Nat
  | 0 => 0
  | n + 1 => if f n ≤ tk_mx f n then tk_mx f n else f n
theorem tk_mx_t {f : Nat → Nat} {n : Nat} (h : f n ≤ tk_mx f n) : tk_mx f (n + 1) = tk_mx f n := if_pos h
theorem tk_mx_f {f : Nat → Nat} {n : Nat} (h : ¬ f n ≤ tk_mx f n) : tk_mx f (n + 1) = f n := if_neg h
theorem tk_mx_le {f : Nat → Nat} {b : Nat} (h : ∀ i, f i ≤ b) : ∀ n, tk_mx f n ≤ b := by
  intro n
  induction n with
  | zero => exact Nat.zero_le _
  | succ n ih =>
    by_cases z : f n ≤ tk_mx f n
    · rw [tk_mx_t z]; exact ih
    · rw [tk_mx_f z]; exact h n
theorem yw_dst {post : Int32 → Prop} {ys ye yz mk : Nat → Int32} {N : Nat → Nat} {S E : Nat → Nat → Nat} {t : Nat} (ok : tk_ok N S E) (R : tk_rx N S E ys ye yz) (ht : t < 3) (h : post (nI (tk_mx (tk_dp (N t) (S t) (E t)) 64))) :
    ∀ m p, p + m = 64 → ∀ f, m < f → wY_deepest_14 post (nI t) ys ye yz mk f (nI (tk_mx (tk_dp (N t) (S t) (E t)) p)) (nI p) := by
  have hn := (ok t ht).1
  intro m
  induction m with
  | zero =>
    intro p hm f hf
    obtain ⟨f, rfl⟩ : ∃ g, f = g + 1 := ⟨f - 1, by omega⟩
    have e0 : p = 64 := by omega
    subst e0
    have g0 : 64 ≤ 64 := Nat.le_refl _
    simp (disch := omega) only [wY_deepest_14, g0, forall_eq, nI_leI, nI_ltI, nI_eq, vp_in_nI, nI_clamp, nI_1, nI_add, tw_32, tw_32r, tw_p, sb_m1, tw_s1, tw_65, Nat.add_sub_cancel, tw_l0a, tw_l0b, tw_l0c, tw_l0d, tw_l0e, tw_l1a, tw_l1b, tw_l1c, tw_l1d, tw_l1e, tw_l2a, tw_l2b, tw_l2c, tw_l2d, tw_l2e, tw_l3a, tw_l3b, tw_l3c, tw_l3d, tw_l3e, tw_l4a, tw_l4b, tw_l4c, tw_l4d, tw_l4e, tw_l7a, tw_l7b, tw_l7c, tw_l7d, tw_l7e, tw_l31a, tw_l31b, tw_l31c, tw_l31d, tw_l31e, tw_l32a, tw_l32b, tw_l32c, tw_l32d, tw_l32e, tw_l63a, tw_l63b, tw_l63c, tw_l63d, tw_l63e, tw_l64a, tw_l64b, tw_l64c, tw_l64d, tw_l64e, true_implies, forall_const, not_true_eq_false, not_false_eq_true, false_implies, and_true, true_and, implies_true, and_self]
    exact h
  | succ m ih =>
    intro p hm f hf
    obtain ⟨f, rfl⟩ : ∃ g, f = g + 1 := ⟨f - 1, by omega⟩
    have g0 : ¬ 64 ≤ p := by omega
    have K := ih (p + 1) (by omega) f (by omega)
    have d1 := tk_dp_le (N t) (S t) (E t) p
    have d2 := tk_mx_le (fun q => tk_dp_le (N t) (S t) (E t) q) p
    simp (disch := omega) only [wY_deepest_14, g0, forall_eq, nI_leI, nI_ltI, nI_eq, vp_in_nI, nI_clamp, nI_1, nI_add, tw_32, tw_32r, tw_p, sb_m1, tw_s1, tw_65, Nat.add_sub_cancel, tw_l0a, tw_l0b, tw_l0c, tw_l0d, tw_l0e, tw_l1a, tw_l1b, tw_l1c, tw_l1d, tw_l1e, tw_l2a, tw_l2b, tw_l2c, tw_l2d, tw_l2e, tw_l3a, tw_l3b, tw_l3c, tw_l3d, tw_l3e, tw_l4a, tw_l4b, tw_l4c, tw_l4d, tw_l4e, tw_l7a, tw_l7b, tw_l7c, tw_l7d, tw_l7e, tw_l31a, tw_l31b, tw_l31c, tw_l31d, tw_l31e, tw_l32a, tw_l32b, tw_l32c, tw_l32d, tw_l32e, tw_l63a, tw_l63b, tw_l63c, tw_l63d, tw_l63e, tw_l64a, tw_l64b, tw_l64c, tw_l64d, tw_l64e, true_implies, forall_const, not_true_eq_false, not_false_eq_true, false_implies, and_true, true_and, implies_true, and_self]
    refine yw_deep ok R ht (by omega) ?_
    by_cases y : tk_dp (N t) (S t) (E t) p ≤ tk_mx (tk_dp (N t) (S t) (E t)) p
    · rw [tk_mx_t y] at K
      exact br_t (nI_le y (by omega)) K
    · rw [tk_mx_f y] at K
      exact br_f (nI_ge (by omega) (by omega)) K
theorem xw_dst {post : Int32 → SX → Prop} {fr fo fh fb : Int32} {xs xe xz ho li fi mi hs sk ru rv ou ov sp : Nat → Int32} {n : Nat} {d : Nat → Nat} (hn : n ≤ 32) (hd : ∀ q, d q ≤ n) (hs1 : ∀ q, q < 64 → tk_ps sp (q + 1) = nI (d q)) (h : post (nI (tk_mx d 64)) (fr, fo, fh, fb, xs, xe, xz, ho, li, fi, mi, hs, sk, ru, rv, ou, ov, sp)) :
    ∀ m p, p + m = 64 → ∀ f, m < f → wX_deepest_21 post fr fo fh fb xs xe xz ho li fi mi hs sk ru rv ou ov sp f (tk_ps sp p) (nI (tk_mx d p)) (nI p) := by
  intro m
  induction m with
  | zero =>
    intro p hm f hf
    obtain ⟨f, rfl⟩ : ∃ g, f = g + 1 := ⟨f - 1, by omega⟩
    have e0 : p = 64 := by omega
    subst e0
    have g0 : 64 ≤ 64 := Nat.le_refl _
    simp (disch := omega) only [wX_deepest_21, g0, forall_eq, nI_leI, nI_ltI, nI_eq, vp_in_nI, nI_clamp, nI_1, nI_add, tw_32, tw_32r, tw_p, sb_m1, tw_s1, tw_65, Nat.add_sub_cancel, tw_l0a, tw_l0b, tw_l0c, tw_l0d, tw_l0e, tw_l1a, tw_l1b, tw_l1c, tw_l1d, tw_l1e, tw_l2a, tw_l2b, tw_l2c, tw_l2d, tw_l2e, tw_l3a, tw_l3b, tw_l3c, tw_l3d, tw_l3e, tw_l4a, tw_l4b, tw_l4c, tw_l4d, tw_l4e, tw_l7a, tw_l7b, tw_l7c, tw_l7d, tw_l7e, tw_l31a, tw_l31b, tw_l31c, tw_l31d, tw_l31e, tw_l32a, tw_l32b, tw_l32c, tw_l32d, tw_l32e, tw_l63a, tw_l63b, tw_l63c, tw_l63d, tw_l63e, tw_l64a, tw_l64b, tw_l64c, tw_l64d, tw_l64e, true_implies, forall_const, not_true_eq_false, not_false_eq_true, false_implies, and_true, true_and, implies_true, and_self]
    exact h
  | succ m ih =>
    intro p hm f hf
    obtain ⟨f, rfl⟩ : ∃ g, f = g + 1 := ⟨f - 1, by omega⟩
    have g0 : ¬ 64 ≤ p := by omega
    have K := ih (p + 1) (by omega) f (by omega)
    have e1 : tk_ps sp p + sp p = nI (d p) := hs1 p (by omega)
    have d1 := hd p
    have d2 := tk_mx_le hd p
    rw [hs1 p (by omega)] at K
    by_cases y : d p ≤ tk_mx d p
    · rw [tk_mx_t y] at K
      simp (disch := omega) only [wX_deepest_21, g0, e1, y, forall_eq, nI_leI, nI_ltI, nI_eq, vp_in_nI, nI_clamp, nI_1, nI_add, tw_32, tw_32r, tw_p, sb_m1, tw_s1, tw_65, Nat.add_sub_cancel, tw_l0a, tw_l0b, tw_l0c, tw_l0d, tw_l0e, tw_l1a, tw_l1b, tw_l1c, tw_l1d, tw_l1e, tw_l2a, tw_l2b, tw_l2c, tw_l2d, tw_l2e, tw_l3a, tw_l3b, tw_l3c, tw_l3d, tw_l3e, tw_l4a, tw_l4b, tw_l4c, tw_l4d, tw_l4e, tw_l7a, tw_l7b, tw_l7c, tw_l7d, tw_l7e, tw_l31a, tw_l31b, tw_l31c, tw_l31d, tw_l31e, tw_l32a, tw_l32b, tw_l32c, tw_l32d, tw_l32e, tw_l63a, tw_l63b, tw_l63c, tw_l63d, tw_l63e, tw_l64a, tw_l64b, tw_l64c, tw_l64d, tw_l64e, true_implies, forall_const, not_true_eq_false, not_false_eq_true, false_implies, and_true, true_and, implies_true, and_self]
      exact K
    · rw [tk_mx_f y] at K
      simp (disch := omega) only [wX_deepest_21, g0, e1, y, forall_eq, nI_leI, nI_ltI, nI_eq, vp_in_nI, nI_clamp, nI_1, nI_add, tw_32, tw_32r, tw_p, sb_m1, tw_s1, tw_65, Nat.add_sub_cancel, tw_l0a, tw_l0b, tw_l0c, tw_l0d, tw_l0e, tw_l1a, tw_l1b, tw_l1c, tw_l1d, tw_l1e, tw_l2a, tw_l2b, tw_l2c, tw_l2d, tw_l2e, tw_l3a, tw_l3b, tw_l3c, tw_l3d, tw_l3e, tw_l4a, tw_l4b, tw_l4c, tw_l4d, tw_l4e, tw_l7a, tw_l7b, tw_l7c, tw_l7d, tw_l7e, tw_l31a, tw_l31b, tw_l31c, tw_l31d, tw_l31e, tw_l32a, tw_l32b, tw_l32c, tw_l32d, tw_l32e, tw_l63a, tw_l63b, tw_l63c, tw_l63d, tw_l63e, tw_l64a, tw_l64b, tw_l64c, tw_l64d, tw_l64e, true_implies, forall_const, not_true_eq_false, not_false_eq_true, false_implies, and_true, true_and, implies_true, and_self]
      exact K
theorem yw_cov {post : Int32 → Prop} {ys ye yz mk : Nat → Int32} {N : Nat → Nat} {S E : Nat → Nat → Nat} {t d : Nat} (ok : tk_ok N S E) (R : tk_rx N S E ys ye yz) (ht : t < 3) (hd : d ≤ 32) (h : post (nI (tk_cb (fun q => decide (d ≤ tk_dp (N t) (S t) (E t) q)) 64))) :
    ∀ m p, p + m = 64 → ∀ f, m < f → wY_covered_28 post (nI t) (nI d) ys ye yz mk f (nI (tk_cb (fun q => decide (d ≤ tk_dp (N t) (S t) (E t) q)) p)) (nI p) := by
  have hn := (ok t ht).1
  intro m
  induction m with
  | zero =>
    intro p hm f hf
    obtain ⟨f, rfl⟩ : ∃ g, f = g + 1 := ⟨f - 1, by omega⟩
    have e0 : p = 64 := by omega
    subst e0
    have g0 : 64 ≤ 64 := Nat.le_refl _
    simp (disch := omega) only [wY_covered_28, g0, forall_eq, nI_leI, nI_ltI, nI_eq, vp_in_nI, nI_clamp, nI_1, nI_add, tw_32, tw_32r, tw_p, sb_m1, tw_s1, tw_65, Nat.add_sub_cancel, tw_l0a, tw_l0b, tw_l0c, tw_l0d, tw_l0e, tw_l1a, tw_l1b, tw_l1c, tw_l1d, tw_l1e, tw_l2a, tw_l2b, tw_l2c, tw_l2d, tw_l2e, tw_l3a, tw_l3b, tw_l3c, tw_l3d, tw_l3e, tw_l4a, tw_l4b, tw_l4c, tw_l4d, tw_l4e, tw_l7a, tw_l7b, tw_l7c, tw_l7d, tw_l7e, tw_l31a, tw_l31b, tw_l31c, tw_l31d, tw_l31e, tw_l32a, tw_l32b, tw_l32c, tw_l32d, tw_l32e, tw_l63a, tw_l63b, tw_l63c, tw_l63d, tw_l63e, tw_l64a, tw_l64b, tw_l64c, tw_l64d, tw_l64e, true_implies, forall_const, not_true_eq_false, not_false_eq_true, false_implies, and_true, true_and, implies_true, and_self]
    exact h
  | succ m ih =>
    intro p hm f hf
    obtain ⟨f, rfl⟩ : ∃ g, f = g + 1 := ⟨f - 1, by omega⟩
    have g0 : ¬ 64 ≤ p := by omega
    have K := ih (p + 1) (by omega) f (by omega)
    have d1 := tk_dp_le (N t) (S t) (E t) p
    simp (disch := omega) only [wY_covered_28, g0, forall_eq, nI_leI, nI_ltI, nI_eq, vp_in_nI, nI_clamp, nI_1, nI_add, tw_32, tw_32r, tw_p, sb_m1, tw_s1, tw_65, Nat.add_sub_cancel, tw_l0a, tw_l0b, tw_l0c, tw_l0d, tw_l0e, tw_l1a, tw_l1b, tw_l1c, tw_l1d, tw_l1e, tw_l2a, tw_l2b, tw_l2c, tw_l2d, tw_l2e, tw_l3a, tw_l3b, tw_l3c, tw_l3d, tw_l3e, tw_l4a, tw_l4b, tw_l4c, tw_l4d, tw_l4e, tw_l7a, tw_l7b, tw_l7c, tw_l7d, tw_l7e, tw_l31a, tw_l31b, tw_l31c, tw_l31d, tw_l31e, tw_l32a, tw_l32b, tw_l32c, tw_l32d, tw_l32e, tw_l63a, tw_l63b, tw_l63c, tw_l63d, tw_l63e, tw_l64a, tw_l64b, tw_l64c, tw_l64d, tw_l64e, true_implies, forall_const, not_true_eq_false, not_false_eq_true, false_implies, and_true, true_and, implies_true, and_self]
    refine yw_deep ok R ht (by omega) ?_
    by_cases y : tk_dp (N t) (S t) (E t) p < d
    · rw [tk_cb_f (fun z => by have z2 := of_decide_eq_true z; omega)] at K
      refine br_t (nI_lt y (by omega)) K
    · rw [tk_cb_t (decide_eq_true (by omega))] at K
      refine br_f (nI_nlt (by omega) (by omega)) ?_
      exact K
theorem xw_cov {post : Int32 → SX → Prop} {fr fo fh fb : Int32} {xs xe xz ho li fi mi hs sk ru rv ou ov sp : Nat → Int32} {n k : Nat} {d : Nat → Nat} (hn : n ≤ 32) (hk : k ≤ 32) (hd : ∀ q, d q ≤ n) (hs1 : ∀ q, q < 64 → tk_ps sp (q + 1) = nI (d q)) (h : post (nI (tk_cb (fun q => decide (k ≤ d q)) 64)) (fr, fo, fh, fb, xs, xe, xz, ho, li, fi, mi, hs, sk, ru, rv, ou, ov, sp)) :
    ∀ m p, p + m = 64 → ∀ f, m < f → wX_covered_35 post (nI k) fr fo fh fb xs xe xz ho li fi mi hs sk ru rv ou ov sp f (tk_ps sp p) (nI (tk_cb (fun q => decide (k ≤ d q)) p)) (nI p) := by
  intro m
  induction m with
  | zero =>
    intro p hm f hf
    obtain ⟨f, rfl⟩ : ∃ g, f = g + 1 := ⟨f - 1, by omega⟩
    have e0 : p = 64 := by omega
    subst e0
    have g0 : 64 ≤ 64 := Nat.le_refl _
    simp (disch := omega) only [wX_covered_35, g0, forall_eq, nI_leI, nI_ltI, nI_eq, vp_in_nI, nI_clamp, nI_1, nI_add, tw_32, tw_32r, tw_p, sb_m1, tw_s1, tw_65, Nat.add_sub_cancel, tw_l0a, tw_l0b, tw_l0c, tw_l0d, tw_l0e, tw_l1a, tw_l1b, tw_l1c, tw_l1d, tw_l1e, tw_l2a, tw_l2b, tw_l2c, tw_l2d, tw_l2e, tw_l3a, tw_l3b, tw_l3c, tw_l3d, tw_l3e, tw_l4a, tw_l4b, tw_l4c, tw_l4d, tw_l4e, tw_l7a, tw_l7b, tw_l7c, tw_l7d, tw_l7e, tw_l31a, tw_l31b, tw_l31c, tw_l31d, tw_l31e, tw_l32a, tw_l32b, tw_l32c, tw_l32d, tw_l32e, tw_l63a, tw_l63b, tw_l63c, tw_l63d, tw_l63e, tw_l64a, tw_l64b, tw_l64c, tw_l64d, tw_l64e, true_implies, forall_const, not_true_eq_false, not_false_eq_true, false_implies, and_true, true_and, implies_true, and_self]
    exact h
  | succ m ih =>
    intro p hm f hf
    obtain ⟨f, rfl⟩ : ∃ g, f = g + 1 := ⟨f - 1, by omega⟩
    have g0 : ¬ 64 ≤ p := by omega
    have K := ih (p + 1) (by omega) f (by omega)
    have e1 : tk_ps sp p + sp p = nI (d p) := hs1 p (by omega)
    have d1 := hd p
    rw [hs1 p (by omega)] at K
    by_cases y : d p < k
    · rw [tk_cb_f (fun z => by have z2 := of_decide_eq_true z; omega)] at K
      simp (disch := omega) only [wX_covered_35, g0, e1, y, Int32.add_zero, forall_eq, nI_leI, nI_ltI, nI_eq, vp_in_nI, nI_clamp, nI_1, nI_add, tw_32, tw_32r, tw_p, sb_m1, tw_s1, tw_65, Nat.add_sub_cancel, tw_l0a, tw_l0b, tw_l0c, tw_l0d, tw_l0e, tw_l1a, tw_l1b, tw_l1c, tw_l1d, tw_l1e, tw_l2a, tw_l2b, tw_l2c, tw_l2d, tw_l2e, tw_l3a, tw_l3b, tw_l3c, tw_l3d, tw_l3e, tw_l4a, tw_l4b, tw_l4c, tw_l4d, tw_l4e, tw_l7a, tw_l7b, tw_l7c, tw_l7d, tw_l7e, tw_l31a, tw_l31b, tw_l31c, tw_l31d, tw_l31e, tw_l32a, tw_l32b, tw_l32c, tw_l32d, tw_l32e, tw_l63a, tw_l63b, tw_l63c, tw_l63d, tw_l63e, tw_l64a, tw_l64b, tw_l64c, tw_l64d, tw_l64e, true_implies, forall_const, not_true_eq_false, not_false_eq_true, false_implies, and_true, true_and, implies_true, and_self]
      exact K
    · rw [tk_cb_t (decide_eq_true (by omega))] at K
      simp (disch := omega) only [wX_covered_35, g0, e1, y, forall_eq, nI_leI, nI_ltI, nI_eq, vp_in_nI, nI_clamp, nI_1, nI_add, tw_32, tw_32r, tw_p, sb_m1, tw_s1, tw_65, Nat.add_sub_cancel, tw_l0a, tw_l0b, tw_l0c, tw_l0d, tw_l0e, tw_l1a, tw_l1b, tw_l1c, tw_l1d, tw_l1e, tw_l2a, tw_l2b, tw_l2c, tw_l2d, tw_l2e, tw_l3a, tw_l3b, tw_l3c, tw_l3d, tw_l3e, tw_l4a, tw_l4b, tw_l4c, tw_l4d, tw_l4e, tw_l7a, tw_l7b, tw_l7c, tw_l7d, tw_l7e, tw_l31a, tw_l31b, tw_l31c, tw_l31d, tw_l31e, tw_l32a, tw_l32b, tw_l32c, tw_l32d, tw_l32e, tw_l63a, tw_l63b, tw_l63c, tw_l63d, tw_l63e, tw_l64a, tw_l64b, tw_l64c, tw_l64d, tw_l64e, true_implies, forall_const, not_true_eq_false, not_false_eq_true, false_implies, and_true, true_and, implies_true, and_self]
      exact K
end
section
/-! gaps -/
def tk_gp (s e : Nat → Nat) (a b : Nat) : Nat → Nat := fun i => if e i ≤ a then a - e i else if b ≤ s i then s i - b else 0
theorem tk_gp_1 {s e : Nat → Nat} {a b i : Nat} (h : e i ≤ a) : tk_gp s e a b i = a - e i := if_pos h
theorem tk_gp_2 {s e : Nat → Nat} {a b i : Nat} (h : ¬ e i ≤ a) (h2 : b ≤ s i) : tk_gp s e a b i = s i - b := by
  unfold tk_gp
  rw [if_neg h, if_pos h2]
theorem tk_gp_3 {s e : Nat → Nat} {a b i : Nat} (h : ¬ e i ≤ a) (h2 : ¬ b ≤ s i) : tk_gp s e a b i = 0 := by
  unfold tk_gp
  rw [if_neg h, if_neg h2]
theorem tk_gp_le {s e : Nat → Nat} {a b i : Nat} (ha : a < 64) (hs : s i < 64) : tk_gp s e a b i ≤ 63 := by
  by_cases h : e i ≤ a
  · rw [tk_gp_1 h]; omega
  · by_cases h2 : b ≤ s i
    · rw [tk_gp_2 h h2]; omega
    · rw [tk_gp_3 h h2]; omega
theorem xw_gap {post : Int32 → Prop} {fr fo fh fb : Int32} {xs xe xz ho li fi mi hs sk ru rv ou ov sp : Nat → Int32} {N : Nat → Nat} {S E : Nat → Nat → Nat} {t i a b : Nat} (ok : tk_ok N S E) (R : tk_rx N S E xs xe xz) (ht : t < 3) (hi : i < N t) (hab : a < b) (hb : b ≤ 64) (h : post (nI (tk_gp (S t) (E t) a b i))) : wpX_gap post (fr, fo, fh, fb, xs, xe, xz, ho, li, fi, mi, hs, sk, ru, rv, ou, ov, sp) (nI (32 * t + i)) (nI a) (nI b) := by
  have hn := (ok t ht).1
  have i1 := R.2.1 t ht i hi
  have i2 := R.2.2 t ht i hi
  have b0 := (ok t ht).2.1 i hi
  by_cases z1 : E t i ≤ a
  · have z2 : ¬ a < E t i := by omega
    rw [tk_gp_1 z1] at h
    simp (disch := omega) only [wpX_gap, i1, i2, z2, pk_sub, forall_eq, nI_leI, nI_ltI, nI_eq, vp_in_nI, nI_clamp, nI_1, nI_add, tw_32, tw_32r, tw_p, sb_m1, tw_s1, tw_65, Nat.add_sub_cancel, tw_l0a, tw_l0b, tw_l0c, tw_l0d, tw_l0e, tw_l1a, tw_l1b, tw_l1c, tw_l1d, tw_l1e, tw_l2a, tw_l2b, tw_l2c, tw_l2d, tw_l2e, tw_l3a, tw_l3b, tw_l3c, tw_l3d, tw_l3e, tw_l4a, tw_l4b, tw_l4c, tw_l4d, tw_l4e, tw_l7a, tw_l7b, tw_l7c, tw_l7d, tw_l7e, tw_l31a, tw_l31b, tw_l31c, tw_l31d, tw_l31e, tw_l32a, tw_l32b, tw_l32c, tw_l32d, tw_l32e, tw_l63a, tw_l63b, tw_l63c, tw_l63d, tw_l63e, tw_l64a, tw_l64b, tw_l64c, tw_l64d, tw_l64e, true_implies, forall_const, not_true_eq_false, not_false_eq_true, false_implies, and_true, true_and, implies_true, and_self]
    exact h
  · have z2 : a < E t i := by omega
    by_cases z3 : b ≤ S t i
    · have z4 : ¬ S t i < b := by omega
      rw [tk_gp_2 z1 z3] at h
      simp (disch := omega) only [wpX_gap, i1, i2, z2, z4, pk_sub, forall_eq, nI_leI, nI_ltI, nI_eq, vp_in_nI, nI_clamp, nI_1, nI_add, tw_32, tw_32r, tw_p, sb_m1, tw_s1, tw_65, Nat.add_sub_cancel, tw_l0a, tw_l0b, tw_l0c, tw_l0d, tw_l0e, tw_l1a, tw_l1b, tw_l1c, tw_l1d, tw_l1e, tw_l2a, tw_l2b, tw_l2c, tw_l2d, tw_l2e, tw_l3a, tw_l3b, tw_l3c, tw_l3d, tw_l3e, tw_l4a, tw_l4b, tw_l4c, tw_l4d, tw_l4e, tw_l7a, tw_l7b, tw_l7c, tw_l7d, tw_l7e, tw_l31a, tw_l31b, tw_l31c, tw_l31d, tw_l31e, tw_l32a, tw_l32b, tw_l32c, tw_l32d, tw_l32e, tw_l63a, tw_l63b, tw_l63c, tw_l63d, tw_l63e, tw_l64a, tw_l64b, tw_l64c, tw_l64d, tw_l64e, true_implies, forall_const, not_true_eq_false, not_false_eq_true, false_implies, and_true, true_and, implies_true, and_self]
      exact h
    · have z4 : S t i < b := by omega
      rw [tk_gp_3 z1 z3] at h
      simp (disch := omega) only [wpX_gap, i1, i2, z2, z4, forall_eq, nI_leI, nI_ltI, nI_eq, vp_in_nI, nI_clamp, nI_1, nI_add, tw_32, tw_32r, tw_p, sb_m1, tw_s1, tw_65, Nat.add_sub_cancel, tw_l0a, tw_l0b, tw_l0c, tw_l0d, tw_l0e, tw_l1a, tw_l1b, tw_l1c, tw_l1d, tw_l1e, tw_l2a, tw_l2b, tw_l2c, tw_l2d, tw_l2e, tw_l3a, tw_l3b, tw_l3c, tw_l3d, tw_l3e, tw_l4a, tw_l4b, tw_l4c, tw_l4d, tw_l4e, tw_l7a, tw_l7b, tw_l7c, tw_l7d, tw_l7e, tw_l31a, tw_l31b, tw_l31c, tw_l31d, tw_l31e, tw_l32a, tw_l32b, tw_l32c, tw_l32d, tw_l32e, tw_l63a, tw_l63b, tw_l63c, tw_l63d, tw_l63e, tw_l64a, tw_l64b, tw_l64c, tw_l64d, tw_l64e, true_implies, forall_const, not_true_eq_false, not_false_eq_true, false_implies, and_true, true_and, implies_true, and_self]
      exact h
theorem yw_apart {post : Int32 → Prop} {ys ye yz mk : Nat → Int32} {N : Nat → Nat} {S E : Nat → Nat → Nat} {t i a b : Nat} (ok : tk_ok N S E) (R : tk_rx N S E ys ye yz) (ht : t < 3) (hi : i < N t) (hab : a < b) (hb : b ≤ 64) (h : post (nI (tk_gp (S t) (E t) a b i))) : wpY_apart post (ys, ye, yz, mk) (nI t) (nI i) (nI a) (nI b) := by
  have hn := (ok t ht).1
  have i1 := R.2.1 t ht i hi
  have i2 := R.2.2 t ht i hi
  have b0 := (ok t ht).2.1 i hi
  unfold wpY_apart
  refine yw_meets ok R ht hi hab hb ?_
  by_cases y : S t i < b ∧ a < E t i
  · have e1 : tk_hp (S t) (E t) a b i = true := decide_eq_true y
    rw [e1]
    rw [tk_gp_3 (by omega) (by omega)] at h
    exact br_f tw_10 h
  · have e1 : tk_hp (S t) (E t) a b i = false := decide_eq_false y
    rw [e1]
    refine br_t rfl ?_
    by_cases z1 : E t i ≤ a
    · have z2 : ¬ a < E t i := by omega
      rw [tk_gp_1 z1] at h
      simp (disch := omega) only [i1, i2, z2, pk_sub, forall_eq, nI_leI, nI_ltI, nI_eq, vp_in_nI, nI_clamp, nI_1, nI_add, tw_32, tw_32r, tw_p, sb_m1, tw_s1, tw_65, Nat.add_sub_cancel, tw_l0a, tw_l0b, tw_l0c, tw_l0d, tw_l0e, tw_l1a, tw_l1b, tw_l1c, tw_l1d, tw_l1e, tw_l2a, tw_l2b, tw_l2c, tw_l2d, tw_l2e, tw_l3a, tw_l3b, tw_l3c, tw_l3d, tw_l3e, tw_l4a, tw_l4b, tw_l4c, tw_l4d, tw_l4e, tw_l7a, tw_l7b, tw_l7c, tw_l7d, tw_l7e, tw_l31a, tw_l31b, tw_l31c, tw_l31d, tw_l31e, tw_l32a, tw_l32b, tw_l32c, tw_l32d, tw_l32e, tw_l63a, tw_l63b, tw_l63c, tw_l63d, tw_l63e, tw_l64a, tw_l64b, tw_l64c, tw_l64d, tw_l64e, true_implies, forall_const, not_true_eq_false, not_false_eq_true, false_implies, and_true, true_and, implies_true, and_self]
      exact h
    · have z2 : a < E t i := by omega
      rw [tk_gp_2 z1 (by omega)] at h
      simp (disch := omega) only [i1, i2, z2, pk_sub, forall_eq, nI_leI, nI_ltI, nI_eq, vp_in_nI, nI_clamp, nI_1, nI_add, tw_32, tw_32r, tw_p, sb_m1, tw_s1, tw_65, Nat.add_sub_cancel, tw_l0a, tw_l0b, tw_l0c, tw_l0d, tw_l0e, tw_l1a, tw_l1b, tw_l1c, tw_l1d, tw_l1e, tw_l2a, tw_l2b, tw_l2c, tw_l2d, tw_l2e, tw_l3a, tw_l3b, tw_l3c, tw_l3d, tw_l3e, tw_l4a, tw_l4b, tw_l4c, tw_l4d, tw_l4e, tw_l7a, tw_l7b, tw_l7c, tw_l7d, tw_l7e, tw_l31a, tw_l31b, tw_l31c, tw_l31d, tw_l31e, tw_l32a, tw_l32b, tw_l32c, tw_l32d, tw_l32e, tw_l63a, tw_l63b, tw_l63c, tw_l63d, tw_l63e, tw_l64a, tw_l64b, tw_l64c, tw_l64d, tw_l64e, true_implies, forall_const, not_true_eq_false, not_false_eq_true, false_implies, and_true, true_and, implies_true, and_self]
      exact h
def tk_mn (g : Nat → Nat) : Nat → Nat
  | 0 => 64
  | n + 1 => if tk_mn g n ≤ g n then tk_mn g n else g n
theorem tk_mn_t {f : Nat → Nat} {n : Nat} (h : tk_mn f n ≤ f n) : tk_mn f (n + 1) = tk_mn f n := if_pos h
theorem tk_mn_f {f : Nat → Nat} {n : Nat} (h : ¬ tk_mn f n ≤ f n) : tk_mn f (n + 1) = f n := if_neg h
theorem tk_mn_64 (g : Nat → Nat) : ∀ n, tk_mn g n ≤ 64 := by
  intro n
  induction n with
  | zero => exact Nat.le_refl _
  | succ n ih =>
    by_cases z : tk_mn g n ≤ g n
    · rw [tk_mn_t z]; exact ih
    · rw [tk_mn_f z]; omega
theorem tk_mn_le (g : Nat → Nat) : ∀ n i, i < n → tk_mn g n ≤ g i := by
  intro n
  induction n with
  | zero => intro i h; omega
  | succ n ih =>
    intro i hi
    by_cases z : tk_mn g n ≤ g n
    · rw [tk_mn_t z]
      by_cases y : i = n
      · rw [y]; exact z
      · exact ih i (by omega)
    · rw [tk_mn_f z]
      by_cases y : i = n
      · rw [y]; exact Nat.le_refl _
      · have w := ih i (by omega)
        omega
theorem tk_mn_ge {g : Nat → Nat} {v : Nat} (hv : v ≤ 64) : ∀ n, (∀ i, i < n → v ≤ g i) → v ≤ tk_mn g n := by
  intro n
  induction n with
  | zero => intro _; exact hv
  | succ n ih =>
    intro h
    by_cases z : tk_mn g n ≤ g n
    · rw [tk_mn_t z]; exact ih (fun i hi => h i (by omega))
    · rw [tk_mn_f z]; exact h n (by omega)
/-- the first of the nearest -/
def tk_fm1 (g : Nat → Nat) (n f : Nat) : Prop := f < n ∧ (∀ j, j < n → g f ≤ g j) ∧ (∀ j, j < f → g f < g j)
theorem tk_fm1_u {g : Nat → Nat} {n f f' : Nat} (h : tk_fm1 g n f) (h' : tk_fm1 g n f') : f' = f := by
  rcases Nat.lt_trichotomy f' f with z | z | z
  · have a := h.2.2 f' z
    have b := h'.2.1 f h.1
    omega
  · exact z
  · have a := h'.2.2 f z
    have b := h.2.1 f' h'.1
    omega
theorem tk_fm1_mn {g : Nat → Nat} {n f : Nat} (h : tk_fm1 g n f) (hg : g f ≤ 64) : tk_mn g n = g f := by
  have a := tk_mn_le g n f h.1
  have b := tk_mn_ge hg n h.2.1
  omega
theorem tk_fm1_ex (g : Nat → Nat) : ∀ n, 0 < n → ∃ f, tk_fm1 g n f := by
  intro n
  induction n with
  | zero => intro h; omega
  | succ n ih =>
    intro _
    by_cases z : n = 0
    · subst z
      refine ⟨0, by omega, fun j hj => ?_, fun j hj => by omega⟩
      rw [show j = 0 by omega]
      exact Nat.le_refl _
    · obtain ⟨f, h1, h2, h3⟩ := ih (by omega)
      by_cases y : g f ≤ g n
      · refine ⟨f, by omega, fun j hj => ?_, h3⟩
        by_cases w : j = n
        · rw [w]; exact y
        · exact h2 j (by omega)
      · refine ⟨n, by omega, fun j hj => ?_, fun j hj => ?_⟩
        · by_cases w : j = n
          · rw [w]; exact Nat.le_refl _
          · have v := h2 j (by omega)
            omega
        · have v := h2 j hj
          omega
theorem xw_nea {post : Int32 → Prop} {fr fo fh fb : Int32} {xs xe xz ho li fi mi hs sk ru rv ou ov sp : Nat → Int32} {N : Nat → Nat} {S E : Nat → Nat → Nat} {t a b : Nat} (ok : tk_ok N S E) (R : tk_rx N S E xs xe xz) (ht : t < 3) (hab : a < b) (hb : b ≤ 64) (h : post (nI (tk_mn (tk_gp (S t) (E t) a b) (N t)))) :
    ∀ m i, i + m = N t → ∀ f, m < f → wX_nearest_7 post (nI t) (nI a) (nI b) fr fo fh fb xs xe xz ho li fi mi hs sk ru rv ou ov sp f (nI (tk_mn (tk_gp (S t) (E t) a b) i)) (nI i) := by
  have hn := (ok t ht).1
  have hz := R.1 t ht
  intro m
  induction m with
  | zero =>
    intro i hi f hf
    obtain ⟨f, rfl⟩ : ∃ g, f = g + 1 := ⟨f - 1, by omega⟩
    have e0 : i = N t := by omega
    have g0 : N t ≤ i := by omega
    rw [← e0] at h
    simp (disch := omega) only [wX_nearest_7, g0, hz, forall_eq, nI_leI, nI_ltI, nI_eq, vp_in_nI, nI_clamp, nI_1, nI_add, tw_32, tw_32r, tw_p, sb_m1, tw_s1, tw_65, Nat.add_sub_cancel, tw_l0a, tw_l0b, tw_l0c, tw_l0d, tw_l0e, tw_l1a, tw_l1b, tw_l1c, tw_l1d, tw_l1e, tw_l2a, tw_l2b, tw_l2c, tw_l2d, tw_l2e, tw_l3a, tw_l3b, tw_l3c, tw_l3d, tw_l3e, tw_l4a, tw_l4b, tw_l4c, tw_l4d, tw_l4e, tw_l7a, tw_l7b, tw_l7c, tw_l7d, tw_l7e, tw_l31a, tw_l31b, tw_l31c, tw_l31d, tw_l31e, tw_l32a, tw_l32b, tw_l32c, tw_l32d, tw_l32e, tw_l63a, tw_l63b, tw_l63c, tw_l63d, tw_l63e, tw_l64a, tw_l64b, tw_l64c, tw_l64d, tw_l64e, true_implies, forall_const, not_true_eq_false, not_false_eq_true, false_implies, and_true, true_and, implies_true, and_self]
    exact h
  | succ m ih =>
    intro i hi f hf
    obtain ⟨f, rfl⟩ : ∃ g, f = g + 1 := ⟨f - 1, by omega⟩
    have g0 : ¬ N t ≤ i := by omega
    have K := ih (i + 1) (by omega) f (by omega)
    have b0 := (ok t ht).2.1 i (by omega)
    have g1 : tk_gp (S t) (E t) a b i ≤ 63 := tk_gp_le (by omega) (by omega)
    have g2 := tk_mn_64 (tk_gp (S t) (E t) a b) i
    simp (disch := omega) only [wX_nearest_7, g0, hz, forall_eq, nI_leI, nI_ltI, nI_eq, vp_in_nI, nI_clamp, nI_1, nI_add, tw_32, tw_32r, tw_p, sb_m1, tw_s1, tw_65, Nat.add_sub_cancel, tw_l0a, tw_l0b, tw_l0c, tw_l0d, tw_l0e, tw_l1a, tw_l1b, tw_l1c, tw_l1d, tw_l1e, tw_l2a, tw_l2b, tw_l2c, tw_l2d, tw_l2e, tw_l3a, tw_l3b, tw_l3c, tw_l3d, tw_l3e, tw_l4a, tw_l4b, tw_l4c, tw_l4d, tw_l4e, tw_l7a, tw_l7b, tw_l7c, tw_l7d, tw_l7e, tw_l31a, tw_l31b, tw_l31c, tw_l31d, tw_l31e, tw_l32a, tw_l32b, tw_l32c, tw_l32d, tw_l32e, tw_l63a, tw_l63b, tw_l63c, tw_l63d, tw_l63e, tw_l64a, tw_l64b, tw_l64c, tw_l64d, tw_l64e, true_implies, forall_const, not_true_eq_false, not_false_eq_true, false_implies, and_true, true_and, implies_true, and_self]
    refine xw_gap ok R ht (by omega) hab hb ?_
    by_cases y : tk_mn (tk_gp (S t) (E t) a b) i ≤ tk_gp (S t) (E t) a b i
    · rw [tk_mn_t y] at K
      exact br_t (nI_le y (by omega)) K
    · rw [tk_mn_f y] at K
      exact br_f (nI_ge (by omega) (by omega)) K
theorem xw_nearest {post : Int32 → Prop} {fr fo fh fb : Int32} {xs xe xz ho li fi mi hs sk ru rv ou ov sp : Nat → Int32} {N : Nat → Nat} {S E : Nat → Nat → Nat} {t a b : Nat} (ok : tk_ok N S E) (R : tk_rx N S E xs xe xz) (ht : t < 3) (hab : a < b) (hb : b ≤ 64) (h : post (nI (tk_mn (tk_gp (S t) (E t) a b) (N t)))) : wpX_nearest post (fr, fo, fh, fb, xs, xe, xz, ho, li, fi, mi, hs, sk, ru, rv, ou, ov, sp) (nI t) (nI a) (nI b) := by
  unfold wpX_nearest
  exact ⟨N t + 1, xw_nea ok R ht hab hb h (N t) 0 (by omega) _ (by omega)⟩
theorem xw_clo {post : Int32 → Prop} {fr fo fh fb : Int32} {xs xe xz ho li fi mi hs sk ru rv ou ov sp : Nat → Int32} {N : Nat → Nat} {S E : Nat → Nat → Nat} {t a b q : Nat} (ok : tk_ok N S E) (R : tk_rx N S E xs xe xz) (ht : t < 3) (hab : a < b) (hb : b ≤ 64) (hq : tk_fm1 (tk_gp (S t) (E t) a b) (N t) q) (h : post (nI q)) :
    ∀ m i, i + m = q → ∀ f, m < f → wX_closest_39 post (nI t) (nI a) (nI b) (nI (tk_gp (S t) (E t) a b q)) fr fo fh fb xs xe xz ho li fi mi hs sk ru rv ou ov sp f (nI i) := by
  have hn := (ok t ht).1
  have hz := R.1 t ht
  have hq1 := hq.1
  have bq := (ok t ht).2.1 q hq1
  have gq : tk_gp (S t) (E t) a b q ≤ 63 := tk_gp_le (by omega) (by omega)
  intro m
  induction m with
  | zero =>
    intro i hi f hf
    obtain ⟨f, rfl⟩ : ∃ g, f = g + 1 := ⟨f - 1, by omega⟩
    have e0 : i = q := by omega
    subst e0
    have g0 : ¬ N t ≤ i := by omega
    simp (disch := omega) only [wX_closest_39, g0, hz, forall_eq, nI_leI, nI_ltI, nI_eq, vp_in_nI, nI_clamp, nI_1, nI_add, tw_32, tw_32r, tw_p, sb_m1, tw_s1, tw_65, Nat.add_sub_cancel, tw_l0a, tw_l0b, tw_l0c, tw_l0d, tw_l0e, tw_l1a, tw_l1b, tw_l1c, tw_l1d, tw_l1e, tw_l2a, tw_l2b, tw_l2c, tw_l2d, tw_l2e, tw_l3a, tw_l3b, tw_l3c, tw_l3d, tw_l3e, tw_l4a, tw_l4b, tw_l4c, tw_l4d, tw_l4e, tw_l7a, tw_l7b, tw_l7c, tw_l7d, tw_l7e, tw_l31a, tw_l31b, tw_l31c, tw_l31d, tw_l31e, tw_l32a, tw_l32b, tw_l32c, tw_l32d, tw_l32e, tw_l63a, tw_l63b, tw_l63c, tw_l63d, tw_l63e, tw_l64a, tw_l64b, tw_l64c, tw_l64d, tw_l64e, true_implies, forall_const, not_true_eq_false, not_false_eq_true, false_implies, and_true, true_and, implies_true, and_self]
    refine xw_gap ok R ht (by omega) hab hb ?_
    exact br_t rfl h
  | succ m ih =>
    intro i hi f hf
    obtain ⟨f, rfl⟩ : ∃ g, f = g + 1 := ⟨f - 1, by omega⟩
    have g0 : ¬ N t ≤ i := by omega
    have K := ih (i + 1) (by omega) f (by omega)
    have b0 := (ok t ht).2.1 i (by omega)
    have g1 : tk_gp (S t) (E t) a b i ≤ 63 := tk_gp_le (by omega) (by omega)
    have g2 := hq.2.2 i (by omega)
    simp (disch := omega) only [wX_closest_39, g0, hz, forall_eq, nI_leI, nI_ltI, nI_eq, vp_in_nI, nI_clamp, nI_1, nI_add, tw_32, tw_32r, tw_p, sb_m1, tw_s1, tw_65, Nat.add_sub_cancel, tw_l0a, tw_l0b, tw_l0c, tw_l0d, tw_l0e, tw_l1a, tw_l1b, tw_l1c, tw_l1d, tw_l1e, tw_l2a, tw_l2b, tw_l2c, tw_l2d, tw_l2e, tw_l3a, tw_l3b, tw_l3c, tw_l3d, tw_l3e, tw_l4a, tw_l4b, tw_l4c, tw_l4d, tw_l4e, tw_l7a, tw_l7b, tw_l7c, tw_l7d, tw_l7e, tw_l31a, tw_l31b, tw_l31c, tw_l31d, tw_l31e, tw_l32a, tw_l32b, tw_l32c, tw_l32d, tw_l32e, tw_l63a, tw_l63b, tw_l63c, tw_l63d, tw_l63e, tw_l64a, tw_l64b, tw_l64c, tw_l64d, tw_l64e, true_implies, forall_const, not_true_eq_false, not_false_eq_true, false_implies, and_true, true_and, implies_true, and_self]
    refine xw_gap ok R ht (by omega) hab hb ?_
    refine br_f (fun z => ?_) K
    rw [nI_eq (by omega) (by omega)] at z
    omega
theorem yw_clo {post : Int32 → Prop} {ys ye yz mk : Nat → Int32} {N : Nat → Nat} {S E : Nat → Nat → Nat} {t a b : Nat} (ok : tk_ok N S E) (R : tk_rx N S E ys ye yz) (ht : t < 3) (hab : a < b) (hb : b ≤ 64) (h : ∀ q, tk_fm1 (tk_gp (S t) (E t) a b) (N t) q → post (nI q)) :
    ∀ m i, i + m = N t → ∀ q, tk_fm1 (tk_gp (S t) (E t) a b) i q → ∀ f, m < f → wY_closest_32 post (nI t) (nI (65 * a + b)) ys ye yz mk f (nI q) (nI (tk_gp (S t) (E t) a b q)) (nI i) := by
  have hn := (ok t ht).1
  have hz := R.1 t ht
  intro m
  induction m with
  | zero =>
    intro i hi q hq f hf
    obtain ⟨f, rfl⟩ : ∃ g, f = g + 1 := ⟨f - 1, by omega⟩
    have e0 : i = N t := by omega
    have g0 : N t ≤ i := by omega
    rw [e0] at hq
    simp (disch := omega) only [wY_closest_32, g0, hz, forall_eq, nI_leI, nI_ltI, nI_eq, vp_in_nI, nI_clamp, nI_1, nI_add, tw_32, tw_32r, tw_p, sb_m1, tw_s1, tw_65, Nat.add_sub_cancel, tw_l0a, tw_l0b, tw_l0c, tw_l0d, tw_l0e, tw_l1a, tw_l1b, tw_l1c, tw_l1d, tw_l1e, tw_l2a, tw_l2b, tw_l2c, tw_l2d, tw_l2e, tw_l3a, tw_l3b, tw_l3c, tw_l3d, tw_l3e, tw_l4a, tw_l4b, tw_l4c, tw_l4d, tw_l4e, tw_l7a, tw_l7b, tw_l7c, tw_l7d, tw_l7e, tw_l31a, tw_l31b, tw_l31c, tw_l31d, tw_l31e, tw_l32a, tw_l32b, tw_l32c, tw_l32d, tw_l32e, tw_l63a, tw_l63b, tw_l63c, tw_l63d, tw_l63e, tw_l64a, tw_l64b, tw_l64c, tw_l64d, tw_l64e, true_implies, forall_const, not_true_eq_false, not_false_eq_true, false_implies, and_true, true_and, implies_true, and_self]
    exact h q hq
  | succ m ih =>
    intro i hi q hq f hf
    obtain ⟨f, rfl⟩ : ∃ g, f = g + 1 := ⟨f - 1, by omega⟩
    have g0 : ¬ N t ≤ i := by omega
    have b0 := (ok t ht).2.1 i (by omega)
    have hq1 := hq.1
    have bq := (ok t ht).2.1 q (by omega)
    have g1 : tk_gp (S t) (E t) a b i ≤ 63 := tk_gp_le (by omega) (by omega)
    have gq : tk_gp (S t) (E t) a b q ≤ 63 := tk_gp_le (by omega) (by omega)
    simp (disch := omega) only [wY_closest_32, g0, hz, tw_q65 hab hb, tw_r65, forall_eq, nI_leI, nI_ltI, nI_eq, vp_in_nI, nI_clamp, nI_1, nI_add, tw_32, tw_32r, tw_p, sb_m1, tw_s1, tw_65, Nat.add_sub_cancel, tw_l0a, tw_l0b, tw_l0c, tw_l0d, tw_l0e, tw_l1a, tw_l1b, tw_l1c, tw_l1d, tw_l1e, tw_l2a, tw_l2b, tw_l2c, tw_l2d, tw_l2e, tw_l3a, tw_l3b, tw_l3c, tw_l3d, tw_l3e, tw_l4a, tw_l4b, tw_l4c, tw_l4d, tw_l4e, tw_l7a, tw_l7b, tw_l7c, tw_l7d, tw_l7e, tw_l31a, tw_l31b, tw_l31c, tw_l31d, tw_l31e, tw_l32a, tw_l32b, tw_l32c, tw_l32d, tw_l32e, tw_l63a, tw_l63b, tw_l63c, tw_l63d, tw_l63e, tw_l64a, tw_l64b, tw_l64c, tw_l64d, tw_l64e, true_implies, forall_const, not_true_eq_false, not_false_eq_true, false_implies, and_true, true_and, implies_true, and_self]
    refine yw_apart ok R ht (by omega) hab hb ?_
    by_cases y : tk_gp (S t) (E t) a b q ≤ tk_gp (S t) (E t) a b i
    · have K := ih (i + 1) (by omega) q ⟨by omega, fun j hj => by
        by_cases w : j = i
        · rw [w]; exact y
        · exact hq.2.1 j (by omega), hq.2.2⟩ f (by omega)
      exact br_t (nI_le y (by omega)) K
    · have K := ih (i + 1) (by omega) i ⟨by omega, fun j hj => by
        by_cases w : j = i
        · rw [w]; exact Nat.le_refl _
        · have v := hq.2.1 j (by omega)
          omega, fun j hj => by
        have v := hq.2.1 j (by omega)
        omega⟩ f (by omega)
      exact br_f (nI_ge (by omega) (by omega)) K
theorem yw_closest {post : Int32 → Prop} {ys ye yz mk : Nat → Int32} {N : Nat → Nat} {S E : Nat → Nat → Nat} {t a b : Nat} (ok : tk_ok N S E) (R : tk_rx N S E ys ye yz) (ht : t < 3) (hab : a < b) (hb : b ≤ 64) (h0 : N t = 0 → post (-3)) (h : ∀ q, tk_fm1 (tk_gp (S t) (E t) a b) (N t) q → post (nI q)) : wpY_closest post (ys, ye, yz, mk) (nI t) (nI (65 * a + b)) := by
  unfold wpY_closest
  refine tw_yT ht (br_t rfl (tw_ysT hab hb (br_t rfl ⟨N t + 1, ?_⟩)))
  have hn := (ok t ht).1
  have hz := R.1 t ht
  by_cases z : N t = 0
  · have g0 : N t ≤ 0 := by omega
    have hz0 : yz (0 + t) = nI (N t) := by rw [Nat.zero_add]; exact hz
    have K := h0 z
    have e1 : (nI (N t) ≤ (0 : Int32)) := nI_le (b := 0) g0 (by decide)
    simp (disch := omega) only [wY_closest_32, hz, e1, forall_eq, nI_leI, nI_ltI, nI_eq, vp_in_nI, nI_clamp, nI_1, nI_add, tw_32, tw_32r, tw_p, sb_m1, tw_s1, tw_65, Nat.add_sub_cancel, tw_l0a, tw_l0b, tw_l0c, tw_l0d, tw_l0e, tw_l1a, tw_l1b, tw_l1c, tw_l1d, tw_l1e, tw_l2a, tw_l2b, tw_l2c, tw_l2d, tw_l2e, tw_l3a, tw_l3b, tw_l3c, tw_l3d, tw_l3e, tw_l4a, tw_l4b, tw_l4c, tw_l4d, tw_l4e, tw_l7a, tw_l7b, tw_l7c, tw_l7d, tw_l7e, tw_l31a, tw_l31b, tw_l31c, tw_l31d, tw_l31e, tw_l32a, tw_l32b, tw_l32c, tw_l32d, tw_l32e, tw_l63a, tw_l63b, tw_l63c, tw_l63d, tw_l63e, tw_l64a, tw_l64b, tw_l64c, tw_l64d, tw_l64e, true_implies, forall_const, not_true_eq_false, not_false_eq_true, false_implies, and_true, true_and, implies_true, and_self]
    exact K
  · have b0 := (ok t ht).2.1 0 (by omega)
    have g1 : tk_gp (S t) (E t) a b 0 ≤ 63 := tk_gp_le (by omega) (by omega)
    have K := yw_clo (mk := mk) ok R ht hab hb h (N t - 1) 1 (by omega) 0 ⟨by omega, fun j hj => by rw [show j = 0 by omega]; exact Nat.le_refl _, fun j hj => by omega⟩ (N t) (by omega)
    have e1 : ¬ (nI (N t) ≤ (0 : Int32)) := nI_nle (by omega) (by omega)
    simp (disch := omega) only [wY_closest_32, hz, e1, tw_q65 hab hb, tw_r65, forall_eq, vp_in_nI, nI_clamp, tw_65, true_implies, forall_const, not_true_eq_false, not_false_eq_true, false_implies, and_true, true_and, implies_true, and_self]
    refine yw_apart (i := 0) ok R ht (by omega) hab hb ?_
    exact br_f (nI_ge (b := 999) (by omega) (by decide)) K
/-! shared and meetings -/
theorem xw_sha {post : Int32 → SX → Prop} {fo fh fb : Int32} {xs xe xz ho li fi mi hs sk ru rv ou ov sp : Nat → Int32} {r : Nat} {rs re : Nat → Nat} (hr : r ≤ 32) (hb : ∀ k, k < r → rs k < re k) (h1 : ∀ k, k < r → ru k = nI (rs k)) (h2 : ∀ k, k < r → rv k = nI (re k)) (h : post (nI (tk_sm (fun j => re j - rs j) r)) (nI r, fo, fh, fb, xs, xe, xz, ho, li, fi, mi, hs, sk, ru, rv, ou, ov, sp)) :
    ∀ m k, k + m = r → ∀ f, m < f → wX_shared_40 post (nI r) fo fh fb xs xe xz ho li fi mi hs sk ru rv ou ov sp f (nI (tk_sm (fun j => re j - rs j) k)) (nI k) := by
  intro m
  induction m with
  | zero =>
    intro k hk f hf
    obtain ⟨f, rfl⟩ : ∃ g, f = g + 1 := ⟨f - 1, by omega⟩
    have e0 : k = r := by omega
    subst e0
    have g0 : k ≤ k := Nat.le_refl _
    simp (disch := omega) only [wX_shared_40, g0, forall_eq, nI_leI, nI_ltI, nI_eq, vp_in_nI, nI_clamp, nI_1, nI_add, tw_32, tw_32r, tw_p, sb_m1, tw_s1, tw_65, Nat.add_sub_cancel, tw_l0a, tw_l0b, tw_l0c, tw_l0d, tw_l0e, tw_l1a, tw_l1b, tw_l1c, tw_l1d, tw_l1e, tw_l2a, tw_l2b, tw_l2c, tw_l2d, tw_l2e, tw_l3a, tw_l3b, tw_l3c, tw_l3d, tw_l3e, tw_l4a, tw_l4b, tw_l4c, tw_l4d, tw_l4e, tw_l7a, tw_l7b, tw_l7c, tw_l7d, tw_l7e, tw_l31a, tw_l31b, tw_l31c, tw_l31d, tw_l31e, tw_l32a, tw_l32b, tw_l32c, tw_l32d, tw_l32e, tw_l63a, tw_l63b, tw_l63c, tw_l63d, tw_l63e, tw_l64a, tw_l64b, tw_l64c, tw_l64d, tw_l64e, true_implies, forall_const, not_true_eq_false, not_false_eq_true, false_implies, and_true, true_and, implies_true, and_self]
    exact h
  | succ m ih =>
    intro k hk f hf
    obtain ⟨f, rfl⟩ : ∃ g, f = g + 1 := ⟨f - 1, by omega⟩
    have g0 : ¬ r ≤ k := by omega
    have i1 := h1 k (by omega)
    have i2 := h2 k (by omega)
    have b0 := hb k (by omega)
    have K := ih (k + 1) (by omega) f (by omega)
    have e1 : nI (re k) - nI (rs k) = nI (re k - rs k) := pk_sub (by omega)
    simp (disch := omega) only [wX_shared_40, g0, i1, i2, e1, forall_eq, nI_leI, nI_ltI, nI_eq, vp_in_nI, nI_clamp, nI_1, nI_add, tw_32, tw_32r, tw_p, sb_m1, tw_s1, tw_65, Nat.add_sub_cancel, tw_l0a, tw_l0b, tw_l0c, tw_l0d, tw_l0e, tw_l1a, tw_l1b, tw_l1c, tw_l1d, tw_l1e, tw_l2a, tw_l2b, tw_l2c, tw_l2d, tw_l2e, tw_l3a, tw_l3b, tw_l3c, tw_l3d, tw_l3e, tw_l4a, tw_l4b, tw_l4c, tw_l4d, tw_l4e, tw_l7a, tw_l7b, tw_l7c, tw_l7d, tw_l7e, tw_l31a, tw_l31b, tw_l31c, tw_l31d, tw_l31e, tw_l32a, tw_l32b, tw_l32c, tw_l32d, tw_l32e, tw_l63a, tw_l63b, tw_l63c, tw_l63d, tw_l63e, tw_l64a, tw_l64b, tw_l64c, tw_l64d, tw_l64e, true_implies, forall_const, not_true_eq_false, not_false_eq_true, false_implies, and_true, true_and, implies_true, and_self]
    exact K
theorem yw_sha {post : Int32 → Prop} {ys ye yz mk : Nat → Int32} {N : Nat → Nat} {S E : Nat → Nat → Nat} {t u : Nat} (ok : tk_ok N S E) (R : tk_rx N S E ys ye yz) (ht : t < 3) (hu : u < 3) (h : post (nI (tk_cb (tk_W 0 (tk_cv (N t) (S t) (E t)) (tk_cv (N u) (S u) (E u))) 64))) :
    ∀ m p, p + m = 64 → ∀ f, m < f → wY_shared_23 post (nI t) (nI u) ys ye yz mk f (nI (tk_cb (tk_W 0 (tk_cv (N t) (S t) (E t)) (tk_cv (N u) (S u) (E u))) p)) (nI p) := by
  have nl := (ok t ht).1
  have nl2 := (ok u hu).1
  intro m
  induction m with
  | zero =>
    intro p hm f hf
    obtain ⟨f, rfl⟩ : ∃ g, f = g + 1 := ⟨f - 1, by omega⟩
    have e0 : p = 64 := by omega
    subst e0
    have g0 : 64 ≤ 64 := Nat.le_refl _
    simp (disch := omega) only [wY_shared_23, g0, forall_eq, nI_leI, nI_ltI, nI_eq, vp_in_nI, nI_clamp, nI_1, nI_add, tw_32, tw_32r, tw_p, sb_m1, tw_s1, tw_65, Nat.add_sub_cancel, tw_l0a, tw_l0b, tw_l0c, tw_l0d, tw_l0e, tw_l1a, tw_l1b, tw_l1c, tw_l1d, tw_l1e, tw_l2a, tw_l2b, tw_l2c, tw_l2d, tw_l2e, tw_l3a, tw_l3b, tw_l3c, tw_l3d, tw_l3e, tw_l4a, tw_l4b, tw_l4c, tw_l4d, tw_l4e, tw_l7a, tw_l7b, tw_l7c, tw_l7d, tw_l7e, tw_l31a, tw_l31b, tw_l31c, tw_l31d, tw_l31e, tw_l32a, tw_l32b, tw_l32c, tw_l32d, tw_l32e, tw_l63a, tw_l63b, tw_l63c, tw_l63d, tw_l63e, tw_l64a, tw_l64b, tw_l64c, tw_l64d, tw_l64e, true_implies, forall_const, not_true_eq_false, not_false_eq_true, false_implies, and_true, true_and, implies_true, and_self]
    exact h
  | succ m ih =>
    intro p hm f hf
    obtain ⟨f, rfl⟩ : ∃ g, f = g + 1 := ⟨f - 1, by omega⟩
    have g0 : ¬ 64 ≤ p := by omega
    have K := ih (p + 1) (by omega) f (by omega)
    have dl := tk_dp_le (N t) (S t) (E t) p
    have dl2 := tk_dp_le (N u) (S u) (E u) p
    have hw := tk_W_lo (k := 0) (P := tk_cv (N t) (S t) (E t)) (Q := tk_cv (N u) (S u) (E u)) (show p < 64 by omega)
    simp (disch := omega) only [wY_shared_23, g0, forall_eq, nI_leI, nI_ltI, nI_eq, vp_in_nI, nI_clamp, nI_1, nI_add, tw_32, tw_32r, tw_p, sb_m1, tw_s1, tw_65, Nat.add_sub_cancel, tw_l0a, tw_l0b, tw_l0c, tw_l0d, tw_l0e, tw_l1a, tw_l1b, tw_l1c, tw_l1d, tw_l1e, tw_l2a, tw_l2b, tw_l2c, tw_l2d, tw_l2e, tw_l3a, tw_l3b, tw_l3c, tw_l3d, tw_l3e, tw_l4a, tw_l4b, tw_l4c, tw_l4d, tw_l4e, tw_l7a, tw_l7b, tw_l7c, tw_l7d, tw_l7e, tw_l31a, tw_l31b, tw_l31c, tw_l31d, tw_l31e, tw_l32a, tw_l32b, tw_l32c, tw_l32d, tw_l32e, tw_l63a, tw_l63b, tw_l63c, tw_l63d, tw_l63e, tw_l64a, tw_l64b, tw_l64c, tw_l64d, tw_l64e, true_implies, forall_const, not_true_eq_false, not_false_eq_true, false_implies, and_true, true_and, implies_true, and_self]
    refine yw_deep ok R ht (by omega) ?_
    by_cases y : tk_dp (N t) (S t) (E t) p ≤ 0
    · have e1 : tk_cv (N t) (S t) (E t) p = false := decide_eq_false (by omega)
      rw [e1] at hw
      rw [tk_cb_f (by rw [hw]; exact fun z => Bool.noConfusion z)] at K
      exact br_t (nI_le (b := 0) y (by decide)) K
    · have e1 : tk_cv (N t) (S t) (E t) p = true := decide_eq_true (by omega)
      refine br_f (nI_nle (by omega) (by omega)) ?_
      refine yw_deep ok R hu (by omega) ?_
      by_cases y2 : tk_dp (N u) (S u) (E u) p ≤ 0
      · have e2 : tk_cv (N u) (S u) (E u) p = false := decide_eq_false (by omega)
        rw [e1, e2] at hw
        rw [tk_cb_f (by rw [hw]; exact fun z => Bool.noConfusion z)] at K
        exact br_t (nI_le (b := 0) y2 (by decide)) K
      · have e2 : tk_cv (N u) (S u) (E u) p = true := decide_eq_true (by omega)
        rw [e1, e2] at hw
        rw [tk_cb_t (by rw [hw]; rfl)] at K
        exact br_f (nI_nle (by omega) (by omega)) K
def tw_B (N : Nat → Nat) (E : Nat → Nat → Nat) (fb : Int32) (li fi mi : Nat → Int32) : Prop := ∀ t, t < 3 → fb = nI t → tk_bd (N t) (E t) li fi mi
theorem tw_B1 {N : Nat → Nat} {E : Nat → Nat → Nat} {li fi mi : Nat → Int32} : tw_B N E (-1) li fi mi := fun _ h e => absurd e (tw_m1 h)
theorem tw_Bt {N : Nat → Nat} {E : Nat → Nat → Nat} {t : Nat} {li fi mi : Nat → Int32} (ht : t < 3) (h : tk_bd (N t) (E t) li fi mi) : tw_B N E (nI t) li fi mi := by
  intro j hj e
  rw [nI_eq (by omega) (by omega)] at e
  subst e
  exact h
def tk_me (N : Nat → Nat) (S E : Nat → Nat → Nat) (t u : Nat) : Nat → Nat := fun i => tk_cb (tk_hp (S u) (E u) (S t i) (E t i)) (N u)
theorem xw_mee {post : Int32 → SX → Prop} {fr fo : Int32} {xs xe xz ru rv ou ov sp : Nat → Int32} {N : Nat → Nat} {S E : Nat → Nat → Nat} {t u : Nat} (ok : tk_ok N S E) (R : tk_rx N S E xs xe xz) (ht : t < 3) (hu : u < 3)
    (hp : ∀ (fh fb : Int32) (ho li fi mi hs sk : Nat → Int32), tw_B N E fb li fi mi → post (nI (tk_sm (tk_me N S E t u) (N t))) (fr, fo, fh, fb, xs, xe, xz, ho, li, fi, mi, hs, sk, ru, rv, ou, ov, sp)) :
    ∀ m i, i + m = N t → ∀ (fh fb : Int32) (ho li fi mi hs sk : Nat → Int32), tw_B N E fb li fi mi → ∀ f, m < f → wX_meetings_21 post (nI t) (nI u) f (nI (tk_sm (tk_me N S E t u) i)) (nI i) fr fo fh fb xs xe xz ho li fi mi hs sk ru rv ou ov sp := by
  have hn := (ok t ht).1
  have hz := R.1 t ht
  intro m
  induction m with
  | zero =>
    intro i hi fh fb ho li fi mi hs sk B f hf
    obtain ⟨f, rfl⟩ : ∃ g, f = g + 1 := ⟨f - 1, by omega⟩
    have e0 : i = N t := by omega
    have g0 : N t ≤ i := by omega
    have K := hp fh fb ho li fi mi hs sk B
    rw [← e0] at K
    simp (disch := omega) only [wX_meetings_21, g0, hz, forall_eq, nI_leI, nI_ltI, nI_eq, vp_in_nI, nI_clamp, nI_1, nI_add, tw_32, tw_32r, tw_p, sb_m1, tw_s1, tw_65, Nat.add_sub_cancel, tw_l0a, tw_l0b, tw_l0c, tw_l0d, tw_l0e, tw_l1a, tw_l1b, tw_l1c, tw_l1d, tw_l1e, tw_l2a, tw_l2b, tw_l2c, tw_l2d, tw_l2e, tw_l3a, tw_l3b, tw_l3c, tw_l3d, tw_l3e, tw_l4a, tw_l4b, tw_l4c, tw_l4d, tw_l4e, tw_l7a, tw_l7b, tw_l7c, tw_l7d, tw_l7e, tw_l31a, tw_l31b, tw_l31c, tw_l31d, tw_l31e, tw_l32a, tw_l32b, tw_l32c, tw_l32d, tw_l32e, tw_l63a, tw_l63b, tw_l63c, tw_l63d, tw_l63e, tw_l64a, tw_l64b, tw_l64c, tw_l64d, tw_l64e, true_implies, forall_const, not_true_eq_false, not_false_eq_true, false_implies, and_true, true_and, implies_true, and_self]
    exact K
  | succ m ih =>
    intro i hi fh fb ho li fi mi hs sk B f hf
    obtain ⟨f, rfl⟩ : ∃ g, f = g + 1 := ⟨f - 1, by omega⟩
    have g0 : ¬ N t ≤ i := by omega
    have i1 := R.2.1 t ht i (by omega)
    have i2 := R.2.2 t ht i (by omega)
    have b0 := (ok t ht).2.1 i (by omega)
    simp (disch := omega) only [wX_meetings_21, g0, hz, i1, i2, forall_eq, nI_leI, nI_ltI, nI_eq, vp_in_nI, nI_clamp, nI_1, nI_add, tw_32, tw_32r, tw_p, sb_m1, tw_s1, tw_65, Nat.add_sub_cancel, tw_l0a, tw_l0b, tw_l0c, tw_l0d, tw_l0e, tw_l1a, tw_l1b, tw_l1c, tw_l1d, tw_l1e, tw_l2a, tw_l2b, tw_l2c, tw_l2d, tw_l2e, tw_l3a, tw_l3b, tw_l3c, tw_l3d, tw_l3e, tw_l4a, tw_l4b, tw_l4c, tw_l4d, tw_l4e, tw_l7a, tw_l7b, tw_l7c, tw_l7d, tw_l7e, tw_l31a, tw_l31b, tw_l31c, tw_l31d, tw_l31e, tw_l32a, tw_l32b, tw_l32c, tw_l32d, tw_l32e, tw_l63a, tw_l63b, tw_l63c, tw_l63d, tw_l63e, tw_l64a, tw_l64b, tw_l64c, tw_l64d, tw_l64e, true_implies, forall_const, not_true_eq_false, not_false_eq_true, false_implies, and_true, true_and, implies_true, and_self]
    refine xw_find ok R hu (B u hu) (by omega) (by omega) (fun c H ho li fi mi hs sk en hh bd => ?_)
    have K := ih (i + 1) (by omega) (nI c) (nI u) ho li fi mi hs sk (tw_Bt hu bd) f (by omega)
    have e1 : tk_sm (tk_me N S E t u) (i + 1) = tk_sm (tk_me N S E t u) i + c := by
      show tk_sm (tk_me N S E t u) i + tk_me N S E t u i = _
      rw [show tk_me N S E t u i = c from tk_en_n en]
    rw [e1] at K
    simp (disch := omega) only [forall_eq, nI_leI, nI_ltI, nI_eq, vp_in_nI, nI_clamp, nI_1, nI_add, tw_32, tw_32r, tw_p, sb_m1, tw_s1, tw_65, Nat.add_sub_cancel, tw_l0a, tw_l0b, tw_l0c, tw_l0d, tw_l0e, tw_l1a, tw_l1b, tw_l1c, tw_l1d, tw_l1e, tw_l2a, tw_l2b, tw_l2c, tw_l2d, tw_l2e, tw_l3a, tw_l3b, tw_l3c, tw_l3d, tw_l3e, tw_l4a, tw_l4b, tw_l4c, tw_l4d, tw_l4e, tw_l7a, tw_l7b, tw_l7c, tw_l7d, tw_l7e, tw_l31a, tw_l31b, tw_l31c, tw_l31d, tw_l31e, tw_l32a, tw_l32b, tw_l32c, tw_l32d, tw_l32e, tw_l63a, tw_l63b, tw_l63c, tw_l63d, tw_l63e, tw_l64a, tw_l64b, tw_l64c, tw_l64d, tw_l64e, true_implies, forall_const, not_true_eq_false, not_false_eq_true, false_implies, and_true, true_and, implies_true, and_self]
    exact K
theorem tw_65m (a : Nat) : (65 : Int32) * nI a = nI (65 * a) := pk_mul 65 a
theorem yw_mee {post : Int32 → Prop} {ys ye yz mk : Nat → Int32} {N : Nat → Nat} {S E : Nat → Nat → Nat} {t u : Nat} (ok : tk_ok N S E) (R : tk_rx N S E ys ye yz) (ht : t < 3) (hu : u < 3) (h : post (nI (tk_sm (tk_me N S E t u) (N t)))) :
    ∀ m i, i + m = N t → ∀ f, m < f → wY_meetings_23 post (nI t) (nI u) ys ye yz mk f (nI (tk_sm (tk_me N S E t u) i)) (nI i) := by
  have hn := (ok t ht).1
  have hz := R.1 t ht
  intro m
  induction m with
  | zero =>
    intro i hi f hf
    obtain ⟨f, rfl⟩ : ∃ g, f = g + 1 := ⟨f - 1, by omega⟩
    have e0 : i = N t := by omega
    have g0 : N t ≤ i := by omega
    rw [← e0] at h
    simp (disch := omega) only [wY_meetings_23, g0, hz, forall_eq, nI_leI, nI_ltI, nI_eq, vp_in_nI, nI_clamp, nI_1, nI_add, tw_32, tw_32r, tw_p, sb_m1, tw_s1, tw_65, Nat.add_sub_cancel, tw_l0a, tw_l0b, tw_l0c, tw_l0d, tw_l0e, tw_l1a, tw_l1b, tw_l1c, tw_l1d, tw_l1e, tw_l2a, tw_l2b, tw_l2c, tw_l2d, tw_l2e, tw_l3a, tw_l3b, tw_l3c, tw_l3d, tw_l3e, tw_l4a, tw_l4b, tw_l4c, tw_l4d, tw_l4e, tw_l7a, tw_l7b, tw_l7c, tw_l7d, tw_l7e, tw_l31a, tw_l31b, tw_l31c, tw_l31d, tw_l31e, tw_l32a, tw_l32b, tw_l32c, tw_l32d, tw_l32e, tw_l63a, tw_l63b, tw_l63c, tw_l63d, tw_l63e, tw_l64a, tw_l64b, tw_l64c, tw_l64d, tw_l64e, true_implies, forall_const, not_true_eq_false, not_false_eq_true, false_implies, and_true, true_and, implies_true, and_self]
    exact h
  | succ m ih =>
    intro i hi f hf
    obtain ⟨f, rfl⟩ : ∃ g, f = g + 1 := ⟨f - 1, by omega⟩
    have g0 : ¬ N t ≤ i := by omega
    have i1 := R.2.1 t ht i (by omega)
    have i2 := R.2.2 t ht i (by omega)
    have b0 := (ok t ht).2.1 i (by omega)
    have K := ih (i + 1) (by omega) f (by omega)
    simp (disch := omega) only [wY_meetings_23, g0, hz, i1, i2, tw_65m, forall_eq, nI_leI, nI_ltI, nI_eq, vp_in_nI, nI_clamp, nI_1, nI_add, tw_32, tw_32r, tw_p, sb_m1, tw_s1, tw_65, Nat.add_sub_cancel, tw_l0a, tw_l0b, tw_l0c, tw_l0d, tw_l0e, tw_l1a, tw_l1b, tw_l1c, tw_l1d, tw_l1e, tw_l2a, tw_l2b, tw_l2c, tw_l2d, tw_l2e, tw_l3a, tw_l3b, tw_l3c, tw_l3d, tw_l3e, tw_l4a, tw_l4b, tw_l4c, tw_l4d, tw_l4e, tw_l7a, tw_l7b, tw_l7c, tw_l7d, tw_l7e, tw_l31a, tw_l31b, tw_l31c, tw_l31d, tw_l31e, tw_l32a, tw_l32b, tw_l32c, tw_l32d, tw_l32e, tw_l63a, tw_l63b, tw_l63c, tw_l63d, tw_l63e, tw_l64a, tw_l64b, tw_l64c, tw_l64d, tw_l64e, true_implies, forall_const, not_true_eq_false, not_false_eq_true, false_implies, and_true, true_and, implies_true, and_self]
    refine yw_overlapping ok R hu b0.1 b0.2 ?_
    rw [nI_add]
    exact K
end
section
/-! X's complement -/
theorem tk_C_t {n q : Nat} {s e : Nat → Nat} (h : q < 64) (h2 : ¬ tk_cv n s e q = true) : tk_C n s e q = true := by
  unfold tk_C
  rw [decide_eq_true h, Bool.eq_false_iff.mpr h2]
  rfl
theorem tk_C_f {n q : Nat} {s e : Nat → Nat} (h : tk_cv n s e q = true) : ¬ tk_C n s e q = true := by
  unfold tk_C
  rw [h]
  intro z
  simp at z
theorem tk_C_64 {n q : Nat} {s e : Nat → Nat} (h : 64 ≤ q) : ¬ tk_C n s e q = true := by
  unfold tk_C
  rw [decide_eq_false (by omega), Bool.false_and]
  exact fun z => Bool.noConfusion z
theorem xw_com {post : Int32 → SX → Prop} {fo fh : Int32} {ho li fi mi hs sk ru rv ou ov sp : Nat → Int32} {N : Nat → Nat} {S E : Nat → Nat → Nat} {t n r : Nat} {s0 e0 rs re : Nat → Nat} (ht : t < 3) (nf : tk_nf r rs re (tk_cv n s0 e0) 65) (h1 : ∀ k, k < r → ru k = nI (rs k)) (h2 : ∀ k, k < r → rv k = nI (re k))
    (hp : ∀ (c : Nat) (s e : Nat → Nat) (xs xe xz : Nat → Int32), tk_nf c s e (tk_C n s0 e0) 65 → tk_ok (tk_st N t c) (tk_st S t s) (tk_st E t e) → tk_rx (tk_st N t c) (tk_st S t s) (tk_st E t e) xs xe xz → post (nI c) (nI r, fo, fh, -1, xs, xe, xz, ho, li, fi, mi, hs, sk, ru, rv, ou, ov, sp)) :
    ∀ m k, k + m = r → ∀ (b c : Nat) (s e : Nat → Nat) (fb : Int32) (xs xe xz : Nat → Int32), (k = 0 → b = 0) → (0 < k → b = re (k - 1)) → tk_nf c s e (tk_C n s0 e0) b → tk_ok (tk_st N t c) (tk_st S t s) (tk_st E t e) → tk_rx (tk_st N t c) (tk_st S t s) (tk_st E t e) xs xe xz →
    ∀ f, m < f → wX_complement_25 post (nI t) f (nI b) (nI k) (nI r) fo fh fb xs xe xz ho li fi mi hs sk ru rv ou ov sp := by
  have lr := tk_nf_len nf
  have K82 : ∀ (c : Nat) (s e : Nat → Nat) (fb : Int32) (xs xe xz : Nat → Int32), tk_nf c s e (tk_C n s0 e0) 65 → tk_ok (tk_st N t c) (tk_st S t s) (tk_st E t e) → tk_rx (tk_st N t c) (tk_st S t s) (tk_st E t e) xs xe xz → wX_complement_82 post (nI t) (nI r) fo fh fb xs xe xz ho li fi mi hs sk ru rv ou ov sp := by
    intro c s e fb xs xe xz nf' ok R
    have hz := R.1 t ht
    rw [tk_st_at] at hz
    have K := hp c s e xs xe xz nf' ok R
    simp (disch := omega) only [wX_complement_82, hz, forall_eq, nI_leI, nI_ltI, nI_eq, vp_in_nI, nI_clamp, nI_1, nI_add, tw_32, tw_32r, tw_p, sb_m1, tw_s1, tw_65, Nat.add_sub_cancel, tw_l0a, tw_l0b, tw_l0c, tw_l0d, tw_l0e, tw_l1a, tw_l1b, tw_l1c, tw_l1d, tw_l1e, tw_l2a, tw_l2b, tw_l2c, tw_l2d, tw_l2e, tw_l3a, tw_l3b, tw_l3c, tw_l3d, tw_l3e, tw_l4a, tw_l4b, tw_l4c, tw_l4d, tw_l4e, tw_l7a, tw_l7b, tw_l7c, tw_l7d, tw_l7e, tw_l31a, tw_l31b, tw_l31c, tw_l31d, tw_l31e, tw_l32a, tw_l32b, tw_l32c, tw_l32d, tw_l32e, tw_l63a, tw_l63b, tw_l63c, tw_l63d, tw_l63e, tw_l64a, tw_l64b, tw_l64c, tw_l64d, tw_l64e, true_implies, forall_const, not_true_eq_false, not_false_eq_true, false_implies, and_true, true_and, implies_true, and_self]
    exact K
  intro m
  induction m with
  | zero =>
    intro k hk b c s e fb xs xe xz b0 b1 nfc ok R f hf
    obtain ⟨f, rfl⟩ : ∃ g, f = g + 1 := ⟨f - 1, by omega⟩
    have g0 : r ≤ k := by omega
    have hb : b ≤ 64 := by
      by_cases y : k = 0
      · have y2 := b0 y
        omega
      · have y2 := b1 (by omega)
        have y3 := nf.1 (k - 1) (by omega)
        omega
    have ln := tk_nf_len nfc
    by_cases y : 64 ≤ b
    · have e1 : b = 64 := by omega
      subst e1
      have K := K82 c s e fb xs xe xz (tk_nf_skip nfc (tk_C_64 (Nat.le_refl _))) ok R
      simp (disch := omega) only [wX_complement_25, g0, y, forall_eq, nI_leI, nI_ltI, nI_eq, vp_in_nI, nI_clamp, nI_1, nI_add, tw_32, tw_32r, tw_p, sb_m1, tw_s1, tw_65, Nat.add_sub_cancel, tw_l0a, tw_l0b, tw_l0c, tw_l0d, tw_l0e, tw_l1a, tw_l1b, tw_l1c, tw_l1d, tw_l1e, tw_l2a, tw_l2b, tw_l2c, tw_l2d, tw_l2e, tw_l3a, tw_l3b, tw_l3c, tw_l3d, tw_l3e, tw_l4a, tw_l4b, tw_l4c, tw_l4d, tw_l4e, tw_l7a, tw_l7b, tw_l7c, tw_l7d, tw_l7e, tw_l31a, tw_l31b, tw_l31c, tw_l31d, tw_l31e, tw_l32a, tw_l32b, tw_l32c, tw_l32d, tw_l32e, tw_l63a, tw_l63b, tw_l63c, tw_l63d, tw_l63e, tw_l64a, tw_l64b, tw_l64c, tw_l64d, tw_l64e, true_implies, forall_const, not_true_eq_false, not_false_eq_true, false_implies, and_true, true_and, implies_true, and_self]
      exact K
    · simp (disch := omega) only [wX_complement_25, g0, y, forall_eq, nI_leI, nI_ltI, nI_eq, vp_in_nI, nI_clamp, nI_1, nI_add, tw_32, tw_32r, tw_p, sb_m1, tw_s1, tw_65, Nat.add_sub_cancel, tw_l0a, tw_l0b, tw_l0c, tw_l0d, tw_l0e, tw_l1a, tw_l1b, tw_l1c, tw_l1d, tw_l1e, tw_l2a, tw_l2b, tw_l2c, tw_l2d, tw_l2e, tw_l3a, tw_l3b, tw_l3c, tw_l3d, tw_l3e, tw_l4a, tw_l4b, tw_l4c, tw_l4d, tw_l4e, tw_l7a, tw_l7b, tw_l7c, tw_l7d, tw_l7e, tw_l31a, tw_l31b, tw_l31c, tw_l31d, tw_l31e, tw_l32a, tw_l32b, tw_l32c, tw_l32d, tw_l32e, tw_l63a, tw_l63b, tw_l63c, tw_l63d, tw_l63e, tw_l64a, tw_l64b, tw_l64c, tw_l64d, tw_l64e, true_implies, forall_const, not_true_eq_false, not_false_eq_true, false_implies, and_true, true_and, implies_true, and_self]
      refine xw_append (a := b) (b := 64) ok R ht (by omega) (by omega) (by omega) (fun y0 => by have y1 := nfc.1 (c - 1) (by omega); omega) (fun xs' xe' xz' ok' R' => ?_)
      exact K82 (c + 1) (tk_in s c b) (tk_in e c 64) (-1) xs' xe' xz' (tk_nf_add nfc (by omega) (fun q q1 q2 => tk_C_t q2 (tk_nf_last nf (fun y0 => by have y1 := b1 (by omega); rw [show r = k by omega]; omega) (by omega))) (tk_C_64 (Nat.le_refl _)) (fun j hj => ⟨tk_in_lo hj, tk_in_lo hj⟩) tk_in_at tk_in_at) ok' R'
  | succ m ih =>
    intro k hk b c s e fb xs xe xz b0 b1 nfc ok R f hf
    obtain ⟨f, rfl⟩ : ∃ g, f = g + 1 := ⟨f - 1, by omega⟩
    have g0 : ¬ r ≤ k := by omega
    have i1 := h1 k (by omega)
    have i2 := h2 k (by omega)
    have n1 := nf.1 k (by omega)
    have hb : b ≤ rs k := by
      by_cases y : k = 0
      · have y2 := b0 y
        omega
      · have y2 := b1 (by omega)
        have y3 := nf.2.1 (k - 1) k (by omega) (by omega)
        omega
    have ln := tk_nf_len nfc
    by_cases y : rs k ≤ b
    · have K := ih (k + 1) (by omega) (re k) c s e fb xs xe xz (fun z => by omega) (fun _ => rfl) (tk_nf_skips nfc (by omega) (fun q q1 q2 => tk_C_f (tk_nf_in nf (by omega) (by omega) q2))) ok R f (by omega)
      simp (disch := omega) only [wX_complement_25, g0, i1, i2, y, forall_eq, nI_leI, nI_ltI, nI_eq, vp_in_nI, nI_clamp, nI_1, nI_add, tw_32, tw_32r, tw_p, sb_m1, tw_s1, tw_65, Nat.add_sub_cancel, tw_l0a, tw_l0b, tw_l0c, tw_l0d, tw_l0e, tw_l1a, tw_l1b, tw_l1c, tw_l1d, tw_l1e, tw_l2a, tw_l2b, tw_l2c, tw_l2d, tw_l2e, tw_l3a, tw_l3b, tw_l3c, tw_l3d, tw_l3e, tw_l4a, tw_l4b, tw_l4c, tw_l4d, tw_l4e, tw_l7a, tw_l7b, tw_l7c, tw_l7d, tw_l7e, tw_l31a, tw_l31b, tw_l31c, tw_l31d, tw_l31e, tw_l32a, tw_l32b, tw_l32c, tw_l32d, tw_l32e, tw_l63a, tw_l63b, tw_l63c, tw_l63d, tw_l63e, tw_l64a, tw_l64b, tw_l64c, tw_l64d, tw_l64e, true_implies, forall_const, not_true_eq_false, not_false_eq_true, false_implies, and_true, true_and, implies_true, and_self]
      exact K
    · simp (disch := omega) only [wX_complement_25, g0, i1, i2, y, forall_eq, nI_leI, nI_ltI, nI_eq, vp_in_nI, nI_clamp, nI_1, nI_add, tw_32, tw_32r, tw_p, sb_m1, tw_s1, tw_65, Nat.add_sub_cancel, tw_l0a, tw_l0b, tw_l0c, tw_l0d, tw_l0e, tw_l1a, tw_l1b, tw_l1c, tw_l1d, tw_l1e, tw_l2a, tw_l2b, tw_l2c, tw_l2d, tw_l2e, tw_l3a, tw_l3b, tw_l3c, tw_l3d, tw_l3e, tw_l4a, tw_l4b, tw_l4c, tw_l4d, tw_l4e, tw_l7a, tw_l7b, tw_l7c, tw_l7d, tw_l7e, tw_l31a, tw_l31b, tw_l31c, tw_l31d, tw_l31e, tw_l32a, tw_l32b, tw_l32c, tw_l32d, tw_l32e, tw_l63a, tw_l63b, tw_l63c, tw_l63d, tw_l63e, tw_l64a, tw_l64b, tw_l64c, tw_l64d, tw_l64e, true_implies, forall_const, not_true_eq_false, not_false_eq_true, false_implies, and_true, true_and, implies_true, and_self]
      refine xw_append (a := b) (b := rs k) ok R ht (by omega) (by omega) (by omega) (fun y0 => by have y1 := nfc.1 (c - 1) (by omega); omega) (fun xs' xe' xz' ok' R' => ?_)
      have K := ih (k + 1) (by omega) (re k) (c + 1) (tk_in s c b) (tk_in e c (rs k)) (-1) xs' xe' xz' (fun z => by omega) (fun _ => rfl)
        (tk_nf_skips (tk_nf_add nfc (by omega) (fun q q1 q2 => tk_C_t (by omega) (tk_nf_gap nf (by omega) (fun y0 => by have y1 := b1 y0; omega) q2)) (tk_C_f (tk_nf_in nf (by omega) (Nat.le_refl _) n1.1)) (fun j hj => ⟨tk_in_lo hj, tk_in_lo hj⟩) tk_in_at tk_in_at) (by omega) (fun q q1 q2 => tk_C_f (tk_nf_in nf (by omega) (by omega) q2))) ok' R' f (by omega)
      rw [← i2] at K
      exact K
/-! clear, both sides -/
theorem tw_hm (k : Nat) : nI k + (-1) = tw_h k := (Int32.sub_eq_add_neg _ _).symm
theorem tw_neg : ((-1 : Int32) < 0) = True := eq_true (by decide)
theorem tw_nn {k : Nat} (h : k < 2 ^ 31) : (nI k < 0) = False := eq_false (nI_pos h)
theorem yw_lies {post : Int32 → Prop} {ys ye yz mk : Nat → Int32} {N : Nat → Nat} {S E : Nat → Nat → Nat} {t i a b : Nat} (ok : tk_ok N S E) (R : tk_rx N S E ys ye yz) (ht : t < 3) (hi : i < N t) (hab : a < b) (hb : b ≤ 64) (h1 : (a ≤ S t i ∧ E t i ≤ b) → post 1) (h0 : ¬ (a ≤ S t i ∧ E t i ≤ b) → post 0) : wpY_liesIn post (ys, ye, yz, mk) (nI t) (nI i) (nI (65 * a + b)) := by
  have hn := (ok t ht).1
  have i1 := R.2.1 t ht i hi
  have i2 := R.2.2 t ht i hi
  have b0 := (ok t ht).2.1 i hi
  by_cases z1 : S t i < a
  · have K := h0 (by omega)
    simp (disch := omega) only [wpY_liesIn, tw_q65 hab hb, tw_r65, i1, i2, z1, forall_eq, nI_leI, nI_ltI, nI_eq, vp_in_nI, nI_clamp, nI_1, nI_add, tw_32, tw_32r, tw_p, sb_m1, tw_s1, tw_65, Nat.add_sub_cancel, tw_l0a, tw_l0b, tw_l0c, tw_l0d, tw_l0e, tw_l1a, tw_l1b, tw_l1c, tw_l1d, tw_l1e, tw_l2a, tw_l2b, tw_l2c, tw_l2d, tw_l2e, tw_l3a, tw_l3b, tw_l3c, tw_l3d, tw_l3e, tw_l4a, tw_l4b, tw_l4c, tw_l4d, tw_l4e, tw_l7a, tw_l7b, tw_l7c, tw_l7d, tw_l7e, tw_l31a, tw_l31b, tw_l31c, tw_l31d, tw_l31e, tw_l32a, tw_l32b, tw_l32c, tw_l32d, tw_l32e, tw_l63a, tw_l63b, tw_l63c, tw_l63d, tw_l63e, tw_l64a, tw_l64b, tw_l64c, tw_l64d, tw_l64e, true_implies, forall_const, not_true_eq_false, not_false_eq_true, false_implies, and_true, true_and, implies_true, and_self]
    exact K
  · by_cases z2 : b < E t i
    · have K := h0 (by omega)
      simp (disch := omega) only [wpY_liesIn, tw_q65 hab hb, tw_r65, i1, i2, z1, z2, forall_eq, nI_leI, nI_ltI, nI_eq, vp_in_nI, nI_clamp, nI_1, nI_add, tw_32, tw_32r, tw_p, sb_m1, tw_s1, tw_65, Nat.add_sub_cancel, tw_l0a, tw_l0b, tw_l0c, tw_l0d, tw_l0e, tw_l1a, tw_l1b, tw_l1c, tw_l1d, tw_l1e, tw_l2a, tw_l2b, tw_l2c, tw_l2d, tw_l2e, tw_l3a, tw_l3b, tw_l3c, tw_l3d, tw_l3e, tw_l4a, tw_l4b, tw_l4c, tw_l4d, tw_l4e, tw_l7a, tw_l7b, tw_l7c, tw_l7d, tw_l7e, tw_l31a, tw_l31b, tw_l31c, tw_l31d, tw_l31e, tw_l32a, tw_l32b, tw_l32c, tw_l32d, tw_l32e, tw_l63a, tw_l63b, tw_l63c, tw_l63d, tw_l63e, tw_l64a, tw_l64b, tw_l64c, tw_l64d, tw_l64e, true_implies, forall_const, not_true_eq_false, not_false_eq_true, false_implies, and_true, true_and, implies_true, and_self]
      exact K
    · have K := h1 (by omega)
      simp (disch := omega) only [wpY_liesIn, tw_q65 hab hb, tw_r65, i1, i2, z1, z2, forall_eq, nI_leI, nI_ltI, nI_eq, vp_in_nI, nI_clamp, nI_1, nI_add, tw_32, tw_32r, tw_p, sb_m1, tw_s1, tw_65, Nat.add_sub_cancel, tw_l0a, tw_l0b, tw_l0c, tw_l0d, tw_l0e, tw_l1a, tw_l1b, tw_l1c, tw_l1d, tw_l1e, tw_l2a, tw_l2b, tw_l2c, tw_l2d, tw_l2e, tw_l3a, tw_l3b, tw_l3c, tw_l3d, tw_l3e, tw_l4a, tw_l4b, tw_l4c, tw_l4d, tw_l4e, tw_l7a, tw_l7b, tw_l7c, tw_l7d, tw_l7e, tw_l31a, tw_l31b, tw_l31c, tw_l31d, tw_l31e, tw_l32a, tw_l32b, tw_l32c, tw_l32d, tw_l32e, tw_l63a, tw_l63b, tw_l63c, tw_l63d, tw_l63e, tw_l64a, tw_l64b, tw_l64c, tw_l64d, tw_l64e, true_implies, forall_const, not_true_eq_false, not_false_eq_true, false_implies, and_true, true_and, implies_true, and_self]
      exact K
def tw_clX (N : Nat → Nat) (S E : Nat → Nat → Nat) (g : Nat) (N' : Nat → Nat) (S' E' : Nat → Nat → Nat) (g' t a b k : Nat) : Prop :=
  ∀ (post : Int32 → SX → Prop) (fr fo fh fb : Int32) (xs xe xz ho li fi mi hs sk ru rv ou ov sp : Nat → Int32), tk_rx N S E xs xe xz → tw_B N E fb li fi mi → (∀ (fb : Int32) (xs xe xz : Nat → Int32), tk_rx N' S' E' xs xe xz → tw_B N' E' fb li fi mi → post (nI g') (fr, fo, fh, fb, xs, xe, xz, ho, li, fi, mi, hs, sk, ru, rv, ou, ov, sp)) → ∀ f, k < f → wX_clear_31 post (nI t) (nI (65 * a + b)) f (nI g) (tw_h k) fr fo fh fb xs xe xz ho li fi mi hs sk ru rv ou ov sp
def tw_clY (N : Nat → Nat) (S E : Nat → Nat → Nat) (g : Nat) (N' : Nat → Nat) (S' E' : Nat → Nat → Nat) (g' t a b k : Nat) : Prop :=
  ∀ (post : Int32 → SY → Prop) (ys ye yz mk : Nat → Int32), tk_rx N S E ys ye yz → (∀ ys ye yz : Nat → Int32, tk_rx N' S' E' ys ye yz → post (nI g') (ys, ye, yz, mk)) → ∀ f, k < f → wY_clear_27 post (nI t) (nI (65 * a + b)) f (nI g) (tw_h k) ys ye yz mk
theorem w_cl {t a b : Nat} (ht : t < 3) (hab : a < b) (hb : b ≤ 64) : ∀ (k : Nat) (N : Nat → Nat) (S E : Nat → Nat → Nat) (g : Nat), tk_ok N S E → k ≤ N t →
    ∃ (N' : Nat → Nat) (S' E' : Nat → Nat → Nat) (g' : Nat), tk_ok N' S' E' ∧ tw_clX N S E g N' S' E' g' t a b k ∧ tw_clY N S E g N' S' E' g' t a b k := by
  intro k
  induction k with
  | zero =>
    intro N S E g ok hk
    refine ⟨N, S, E, g, ok, ?_, ?_⟩
    · intro post fr fo fh fb xs xe xz ho li fi mi hs sk ru rv ou ov sp R B hp f hf
      obtain ⟨f, rfl⟩ : ∃ g, f = g + 1 := ⟨f - 1, by omega⟩
      have K := hp fb xs xe xz R B
      simp (disch := omega) only [wX_clear_31, tw_h0, tw_neg, forall_eq, nI_leI, nI_ltI, nI_eq, vp_in_nI, nI_clamp, nI_1, nI_add, tw_32, tw_32r, tw_p, sb_m1, tw_s1, tw_65, Nat.add_sub_cancel, tw_l0a, tw_l0b, tw_l0c, tw_l0d, tw_l0e, tw_l1a, tw_l1b, tw_l1c, tw_l1d, tw_l1e, tw_l2a, tw_l2b, tw_l2c, tw_l2d, tw_l2e, tw_l3a, tw_l3b, tw_l3c, tw_l3d, tw_l3e, tw_l4a, tw_l4b, tw_l4c, tw_l4d, tw_l4e, tw_l7a, tw_l7b, tw_l7c, tw_l7d, tw_l7e, tw_l31a, tw_l31b, tw_l31c, tw_l31d, tw_l31e, tw_l32a, tw_l32b, tw_l32c, tw_l32d, tw_l32e, tw_l63a, tw_l63b, tw_l63c, tw_l63d, tw_l63e, tw_l64a, tw_l64b, tw_l64c, tw_l64d, tw_l64e, true_implies, forall_const, not_true_eq_false, not_false_eq_true, false_implies, and_true, true_and, implies_true, and_self]
      exact K
    · intro post ys ye yz mk R hp f hf
      obtain ⟨f, rfl⟩ : ∃ g, f = g + 1 := ⟨f - 1, by omega⟩
      have K := hp ys ye yz R
      simp (disch := omega) only [wY_clear_27, tw_h0, tw_neg, forall_eq, nI_leI, nI_ltI, nI_eq, vp_in_nI, nI_clamp, nI_1, nI_add, tw_32, tw_32r, tw_p, sb_m1, tw_s1, tw_65, Nat.add_sub_cancel, tw_l0a, tw_l0b, tw_l0c, tw_l0d, tw_l0e, tw_l1a, tw_l1b, tw_l1c, tw_l1d, tw_l1e, tw_l2a, tw_l2b, tw_l2c, tw_l2d, tw_l2e, tw_l3a, tw_l3b, tw_l3c, tw_l3d, tw_l3e, tw_l4a, tw_l4b, tw_l4c, tw_l4d, tw_l4e, tw_l7a, tw_l7b, tw_l7c, tw_l7d, tw_l7e, tw_l31a, tw_l31b, tw_l31c, tw_l31d, tw_l31e, tw_l32a, tw_l32b, tw_l32c, tw_l32d, tw_l32e, tw_l63a, tw_l63b, tw_l63c, tw_l63d, tw_l63e, tw_l64a, tw_l64b, tw_l64c, tw_l64d, tw_l64e, true_implies, forall_const, not_true_eq_false, not_false_eq_true, false_implies, and_true, true_and, implies_true, and_self]
      exact K
  | succ k ih =>
    intro N S E g ok hk
    have hn := (ok t ht).1
    have b0 := (ok t ht).2.1 k (by omega)
    have g0 : ¬ N t ≤ k := by omega
    by_cases y : a ≤ S t k ∧ E t k ≤ b
    · have hk' : k ≤ tk_dN N t t := by
        unfold tk_dN
        rw [tk_st_at]
        omega
      obtain ⟨N', S', E', g', ok', hX, hY⟩ := ih (tk_dN N t) (tk_dS S t k) (tk_dS E t k) (g + 1) (tk_ok_dr ok ht (by omega)) hk'
      have y1 : ¬ S t k < a := by omega
      have y2 : ¬ b < E t k := by omega
      refine ⟨N', S', E', g', ok', ?_, ?_⟩
      · intro post fr fo fh fb xs xe xz ho li fi mi hs sk ru rv ou ov sp R B hp f hf
        obtain ⟨f, rfl⟩ : ∃ g, f = g + 1 := ⟨f - 1, by omega⟩
        have i1 := R.2.1 t ht k (by omega)
        have i2 := R.2.2 t ht k (by omega)
        simp (disch := omega) only [wX_clear_31, tw_hS, tw_nn, tw_q65 hab hb, tw_r65, i1, i2, y1, y2, tw_hm, forall_eq, nI_leI, nI_ltI, nI_eq, vp_in_nI, nI_clamp, nI_1, nI_add, tw_32, tw_32r, tw_p, sb_m1, tw_s1, tw_65, Nat.add_sub_cancel, tw_l0a, tw_l0b, tw_l0c, tw_l0d, tw_l0e, tw_l1a, tw_l1b, tw_l1c, tw_l1d, tw_l1e, tw_l2a, tw_l2b, tw_l2c, tw_l2d, tw_l2e, tw_l3a, tw_l3b, tw_l3c, tw_l3d, tw_l3e, tw_l4a, tw_l4b, tw_l4c, tw_l4d, tw_l4e, tw_l7a, tw_l7b, tw_l7c, tw_l7d, tw_l7e, tw_l31a, tw_l31b, tw_l31c, tw_l31d, tw_l31e, tw_l32a, tw_l32b, tw_l32c, tw_l32d, tw_l32e, tw_l63a, tw_l63b, tw_l63c, tw_l63d, tw_l63e, tw_l64a, tw_l64b, tw_l64c, tw_l64d, tw_l64e, true_implies, forall_const, not_true_eq_false, not_false_eq_true, false_implies, and_true, true_and, implies_true, and_self]
        refine xw_drop ok R ht (by omega) (fun xs' xe' xz' R' => ?_)
        exact hX post fr fo fh (-1) xs' xe' xz' ho li fi mi hs sk ru rv ou ov sp R' tw_B1 hp f (by omega)
      · intro post ys ye yz mk R hp f hf
        obtain ⟨f, rfl⟩ : ∃ g, f = g + 1 := ⟨f - 1, by omega⟩
        have hz := R.1 t ht
        simp (disch := omega) only [wY_clear_27, tw_hS, tw_nn, hz, g0, tw_hm, forall_eq, nI_leI, nI_ltI, nI_eq, vp_in_nI, nI_clamp, nI_1, nI_add, tw_32, tw_32r, tw_p, sb_m1, tw_s1, tw_65, Nat.add_sub_cancel, tw_l0a, tw_l0b, tw_l0c, tw_l0d, tw_l0e, tw_l1a, tw_l1b, tw_l1c, tw_l1d, tw_l1e, tw_l2a, tw_l2b, tw_l2c, tw_l2d, tw_l2e, tw_l3a, tw_l3b, tw_l3c, tw_l3d, tw_l3e, tw_l4a, tw_l4b, tw_l4c, tw_l4d, tw_l4e, tw_l7a, tw_l7b, tw_l7c, tw_l7d, tw_l7e, tw_l31a, tw_l31b, tw_l31c, tw_l31d, tw_l31e, tw_l32a, tw_l32b, tw_l32c, tw_l32d, tw_l32e, tw_l63a, tw_l63b, tw_l63c, tw_l63d, tw_l63e, tw_l64a, tw_l64b, tw_l64c, tw_l64d, tw_l64e, true_implies, forall_const, not_true_eq_false, not_false_eq_true, false_implies, and_true, true_and, implies_true, and_self]
        refine yw_lies ok R ht (by omega) hab hb (fun _ => br_f tw_10 ?_) (fun z => absurd y z)
        refine yw_drop ok R ht (by omega) (fun ys' ye' yz' R' => ?_)
        exact hY post ys' ye' yz' mk R' hp f (by omega)
    · obtain ⟨N', S', E', g', ok', hX, hY⟩ := ih N S E g ok (by omega)
      refine ⟨N', S', E', g', ok', ?_, ?_⟩
      · intro post fr fo fh fb xs xe xz ho li fi mi hs sk ru rv ou ov sp R B hp f hf
        obtain ⟨f, rfl⟩ : ∃ g, f = g + 1 := ⟨f - 1, by omega⟩
        have i1 := R.2.1 t ht k (by omega)
        have i2 := R.2.2 t ht k (by omega)
        have K := hX post fr fo fh fb xs xe xz ho li fi mi hs sk ru rv ou ov sp R B hp f (by omega)
        by_cases y1 : S t k < a
        · simp (disch := omega) only [wX_clear_31, tw_hS, tw_nn, tw_q65 hab hb, tw_r65, i1, i2, y1, tw_hm, forall_eq, nI_leI, nI_ltI, nI_eq, vp_in_nI, nI_clamp, nI_1, nI_add, tw_32, tw_32r, tw_p, sb_m1, tw_s1, tw_65, Nat.add_sub_cancel, tw_l0a, tw_l0b, tw_l0c, tw_l0d, tw_l0e, tw_l1a, tw_l1b, tw_l1c, tw_l1d, tw_l1e, tw_l2a, tw_l2b, tw_l2c, tw_l2d, tw_l2e, tw_l3a, tw_l3b, tw_l3c, tw_l3d, tw_l3e, tw_l4a, tw_l4b, tw_l4c, tw_l4d, tw_l4e, tw_l7a, tw_l7b, tw_l7c, tw_l7d, tw_l7e, tw_l31a, tw_l31b, tw_l31c, tw_l31d, tw_l31e, tw_l32a, tw_l32b, tw_l32c, tw_l32d, tw_l32e, tw_l63a, tw_l63b, tw_l63c, tw_l63d, tw_l63e, tw_l64a, tw_l64b, tw_l64c, tw_l64d, tw_l64e, true_implies, forall_const, not_true_eq_false, not_false_eq_true, false_implies, and_true, true_and, implies_true, and_self]
          exact K
        · have y2 : b < E t k := by omega
          simp (disch := omega) only [wX_clear_31, tw_hS, tw_nn, tw_q65 hab hb, tw_r65, i1, i2, y1, y2, tw_hm, forall_eq, nI_leI, nI_ltI, nI_eq, vp_in_nI, nI_clamp, nI_1, nI_add, tw_32, tw_32r, tw_p, sb_m1, tw_s1, tw_65, Nat.add_sub_cancel, tw_l0a, tw_l0b, tw_l0c, tw_l0d, tw_l0e, tw_l1a, tw_l1b, tw_l1c, tw_l1d, tw_l1e, tw_l2a, tw_l2b, tw_l2c, tw_l2d, tw_l2e, tw_l3a, tw_l3b, tw_l3c, tw_l3d, tw_l3e, tw_l4a, tw_l4b, tw_l4c, tw_l4d, tw_l4e, tw_l7a, tw_l7b, tw_l7c, tw_l7d, tw_l7e, tw_l31a, tw_l31b, tw_l31c, tw_l31d, tw_l31e, tw_l32a, tw_l32b, tw_l32c, tw_l32d, tw_l32e, tw_l63a, tw_l63b, tw_l63c, tw_l63d, tw_l63e, tw_l64a, tw_l64b, tw_l64c, tw_l64d, tw_l64e, true_implies, forall_const, not_true_eq_false, not_false_eq_true, false_implies, and_true, true_and, implies_true, and_self]
          exact K
      · intro post ys ye yz mk R hp f hf
        obtain ⟨f, rfl⟩ : ∃ g, f = g + 1 := ⟨f - 1, by omega⟩
        have hz := R.1 t ht
        have K := hY post ys ye yz mk R hp f (by omega)
        simp (disch := omega) only [wY_clear_27, tw_hS, tw_nn, hz, g0, tw_hm, forall_eq, nI_leI, nI_ltI, nI_eq, vp_in_nI, nI_clamp, nI_1, nI_add, tw_32, tw_32r, tw_p, sb_m1, tw_s1, tw_65, Nat.add_sub_cancel, tw_l0a, tw_l0b, tw_l0c, tw_l0d, tw_l0e, tw_l1a, tw_l1b, tw_l1c, tw_l1d, tw_l1e, tw_l2a, tw_l2b, tw_l2c, tw_l2d, tw_l2e, tw_l3a, tw_l3b, tw_l3c, tw_l3d, tw_l3e, tw_l4a, tw_l4b, tw_l4c, tw_l4d, tw_l4e, tw_l7a, tw_l7b, tw_l7c, tw_l7d, tw_l7e, tw_l31a, tw_l31b, tw_l31c, tw_l31d, tw_l31e, tw_l32a, tw_l32b, tw_l32c, tw_l32d, tw_l32e, tw_l63a, tw_l63b, tw_l63c, tw_l63d, tw_l63e, tw_l64a, tw_l64b, tw_l64c, tw_l64d, tw_l64e, true_implies, forall_const, not_true_eq_false, not_false_eq_true, false_implies, and_true, true_and, implies_true, and_self]
        exact yw_lies ok R ht (by omega) hab hb (fun z => absurd z y) (fun _ => br_t rfl K)
theorem yw_clk {post : Int32 → SY → Prop} {ys ye yz mk : Nat → Int32} {t n x g : Nat} (ht : t < 3) (hn : n ≤ 32) (hz : yz t = nI n) (h : ∀ f, n < f → wY_clear_27 post (nI t) (nI x) f (nI g) (tw_h n) ys ye yz mk) :
    ∀ j, n + j ≤ 32 → ∀ f, n + j < f → wY_clear_27 post (nI t) (nI x) f (nI g) (tw_h (n + j)) ys ye yz mk := by
  intro j
  induction j with
  | zero => intro _ f hf; exact h f hf
  | succ j ih =>
    intro hj f hf
    obtain ⟨f, rfl⟩ : ∃ g, f = g + 1 := ⟨f - 1, by omega⟩
    have K := ih (by omega) f (by omega)
    have g0 : n ≤ n + j := by omega
    have e1 : tw_h (n + (j + 1)) = nI (n + j) := tw_hS (n + j)
    rw [e1]
    simp (disch := omega) only [wY_clear_27, tw_nn, hz, g0, tw_hm, forall_eq, nI_leI, nI_ltI, nI_eq, vp_in_nI, nI_clamp, nI_1, nI_add, tw_32, tw_32r, tw_p, sb_m1, tw_s1, tw_65, Nat.add_sub_cancel, tw_l0a, tw_l0b, tw_l0c, tw_l0d, tw_l0e, tw_l1a, tw_l1b, tw_l1c, tw_l1d, tw_l1e, tw_l2a, tw_l2b, tw_l2c, tw_l2d, tw_l2e, tw_l3a, tw_l3b, tw_l3c, tw_l3d, tw_l3e, tw_l4a, tw_l4b, tw_l4c, tw_l4d, tw_l4e, tw_l7a, tw_l7b, tw_l7c, tw_l7d, tw_l7e, tw_l31a, tw_l31b, tw_l31c, tw_l31d, tw_l31e, tw_l32a, tw_l32b, tw_l32c, tw_l32d, tw_l32e, tw_l63a, tw_l63b, tw_l63c, tw_l63d, tw_l63e, tw_l64a, tw_l64b, tw_l64c, tw_l64d, tw_l64e, true_implies, forall_const, not_true_eq_false, not_false_eq_true, false_implies, and_true, true_and, implies_true, and_self]
    exact K
end
section
/-! repeat, both sides -/
theorem tw_mulI {k : Nat} {x : Int32} (hk : k < 32) (h1 : -64 ≤ x.toInt) (h2 : x.toInt ≤ 64) : -2048 ≤ (nI k * x).toInt ∧ (nI k * x).toInt ≤ 2048 := by
  have a1 : (k : Int) * x.toInt ≤ (k : Int) * 64 := Int.mul_le_mul_of_nonneg_left h2 (by omega)
  have a2 : (k : Int) * (-64) ≤ (k : Int) * x.toInt := Int.mul_le_mul_of_nonneg_left h1 (by omega)
  have e : (nI k * x).toInt = (k : Int) * x.toInt := by
    rw [Int32.toInt_mul, nI_toInt (by omega)]
    exact Int.bmod_eq_of_le (by omega) (by omega)
  rw [e]
  omega
theorem tw_addI {a : Nat} {y : Int32} (ha : a ≤ 64) (h1 : -2048 ≤ y.toInt) (h2 : y.toInt ≤ 2048) : (nI a + y).toInt = (a : Int) + y.toInt := by
  rw [Int32.toInt_add, nI_toInt (by omega)]
  exact Int.bmod_eq_of_le (by omega) (by omega)
theorem tw_rep {k a b : Nat} {x : Int32} (hk : k < 32) (h1 : -64 ≤ x.toInt) (h2 : x.toInt ≤ 64) (hab : a < b) (hb : b ≤ 64) (c1 : ¬ nI a + nI k * x < 0) (c2 : ¬ 64 < nI b + nI k * x) : ∃ s e : Nat, s < e ∧ e ≤ 64 ∧ nI a + nI k * x = nI s ∧ nI b + nI k * x = nI e := by
  obtain ⟨m1, m2⟩ := tw_mulI hk h1 h2
  generalize nI k * x = y at c1 c2 m1 m2
  have e1 := tw_addI (a := a) (by omega) m1 m2
  have e2 := tw_addI (a := b) hb m1 m2
  rw [Int32.lt_iff_toInt_lt, e1, show (0 : Int32).toInt = 0 from by decide] at c1
  rw [Int32.lt_iff_toInt_lt, e2, show (64 : Int32).toInt = 64 from by decide] at c2
  refine ⟨((a : Int) + y.toInt).toNat, ((b : Int) + y.toInt).toNat, by omega, by omega, ?_, ?_⟩
  · apply Int32.toInt_inj.mp
    rw [e1, nI_toInt (by omega)]
    omega
  · apply Int32.toInt_inj.mp
    rw [e2, nI_toInt (by omega)]
    omega
def tw_rpX (N : Nat → Nat) (S E : Nat → Nat → Nat) (N' : Nat → Nat) (S' E' : Nat → Nat → Nat) (t a b : Nat) (x : Int32) (q m k : Nat) : Prop :=
  ∀ (post : Int32 → SX → Prop) (fr fo fh fb : Int32) (xs xe xz ho li fi mi hs sk ru rv ou ov sp : Nat → Int32), tk_rx N S E xs xe xz → tw_B N E fb li fi mi → (∀ (fb : Int32) (xs xe xz : Nat → Int32), tk_rx N' S' E' xs xe xz → tw_B N' E' fb li fi mi → post (nI (N' t)) (fr, fo, fh, fb, xs, xe, xz, ho, li, fi, mi, hs, sk, ru, rv, ou, ov, sp)) → ∀ f, m < f → wX_repeat_53 post (nI t) (nI (65 * a + b)) x (nI q) f (nI k) fr fo fh fb xs xe xz ho li fi mi hs sk ru rv ou ov sp
def tw_rpY (N : Nat → Nat) (S E : Nat → Nat → Nat) (N' : Nat → Nat) (S' E' : Nat → Nat → Nat) (t a b : Nat) (x : Int32) (q m k : Nat) : Prop :=
  ∀ (post : Int32 → SY → Prop) (ys ye yz mk : Nat → Int32), tk_rx N S E ys ye yz → (∀ ys ye yz : Nat → Int32, tk_rx N' S' E' ys ye yz → post (nI (N' t)) (ys, ye, yz, mk)) → ∀ f, m < f → wY_repeat_55 post (nI t) (nI (65 * a + b)) x (nI q) f (nI k) ys ye yz mk
theorem w_rp {t a b q : Nat} {x : Int32} (ht : t < 3) (hab : a < b) (hb : b ≤ 64) (hq : q ≤ 32) (h1 : -64 ≤ x.toInt) (h2 : x.toInt ≤ 64) : ∀ (m k : Nat), k + m = q → ∀ (N : Nat → Nat) (S E : Nat → Nat → Nat), tk_ok N S E →
    ∃ (N' : Nat → Nat) (S' E' : Nat → Nat → Nat), tk_ok N' S' E' ∧ tw_rpX N S E N' S' E' t a b x q m k ∧ tw_rpY N S E N' S' E' t a b x q m k := by
  intro m
  induction m with
  | zero =>
    intro k hk N S E ok
    have g0 : q ≤ k := by omega
    refine ⟨N, S, E, ok, ?_, ?_⟩
    · intro post fr fo fh fb xs xe xz ho li fi mi hs sk ru rv ou ov sp R B hp f hf
      obtain ⟨f, rfl⟩ : ∃ g, f = g + 1 := ⟨f - 1, by omega⟩
      have K := hp fb xs xe xz R B
      have hz := R.1 t ht
      simp (disch := omega) only [wX_repeat_53, g0, hz, forall_eq, nI_leI, nI_ltI, nI_eq, vp_in_nI, nI_clamp, nI_1, nI_add, tw_32, tw_32r, tw_p, sb_m1, tw_s1, tw_65, Nat.add_sub_cancel, tw_l0a, tw_l0b, tw_l0c, tw_l0d, tw_l0e, tw_l1a, tw_l1b, tw_l1c, tw_l1d, tw_l1e, tw_l2a, tw_l2b, tw_l2c, tw_l2d, tw_l2e, tw_l3a, tw_l3b, tw_l3c, tw_l3d, tw_l3e, tw_l4a, tw_l4b, tw_l4c, tw_l4d, tw_l4e, tw_l7a, tw_l7b, tw_l7c, tw_l7d, tw_l7e, tw_l31a, tw_l31b, tw_l31c, tw_l31d, tw_l31e, tw_l32a, tw_l32b, tw_l32c, tw_l32d, tw_l32e, tw_l63a, tw_l63b, tw_l63c, tw_l63d, tw_l63e, tw_l64a, tw_l64b, tw_l64c, tw_l64d, tw_l64e, true_implies, forall_const, not_true_eq_false, not_false_eq_true, false_implies, and_true, true_and, implies_true, and_self]
      exact K
    · intro post ys ye yz mk R hp f hf
      obtain ⟨f, rfl⟩ : ∃ g, f = g + 1 := ⟨f - 1, by omega⟩
      have K := hp ys ye yz R
      have hz := R.1 t ht
      simp (disch := omega) only [wY_repeat_55, g0, hz, forall_eq, nI_leI, nI_ltI, nI_eq, vp_in_nI, nI_clamp, nI_1, nI_add, tw_32, tw_32r, tw_p, sb_m1, tw_s1, tw_65, Nat.add_sub_cancel, tw_l0a, tw_l0b, tw_l0c, tw_l0d, tw_l0e, tw_l1a, tw_l1b, tw_l1c, tw_l1d, tw_l1e, tw_l2a, tw_l2b, tw_l2c, tw_l2d, tw_l2e, tw_l3a, tw_l3b, tw_l3c, tw_l3d, tw_l3e, tw_l4a, tw_l4b, tw_l4c, tw_l4d, tw_l4e, tw_l7a, tw_l7b, tw_l7c, tw_l7d, tw_l7e, tw_l31a, tw_l31b, tw_l31c, tw_l31d, tw_l31e, tw_l32a, tw_l32b, tw_l32c, tw_l32d, tw_l32e, tw_l63a, tw_l63b, tw_l63c, tw_l63d, tw_l63e, tw_l64a, tw_l64b, tw_l64c, tw_l64d, tw_l64e, true_implies, forall_const, not_true_eq_false, not_false_eq_true, false_implies, and_true, true_and, implies_true, and_self]
      exact K
  | succ m ih =>
    intro k hk N S E ok
    have g0 : ¬ q ≤ k := by omega
    have hn := (ok t ht).1
    by_cases c : (nI a + nI k * x < 0) ∨ (64 < nI b + nI k * x) ∨ 32 ≤ N t
    · obtain ⟨N', S', E', ok', hX, hY⟩ := ih (k + 1) (by omega) N S E ok
      refine ⟨N', S', E', ok', ?_, ?_⟩
      · intro post fr fo fh fb xs xe xz ho li fi mi hs sk ru rv ou ov sp R B hp f hf
        obtain ⟨f, rfl⟩ : ∃ g, f = g + 1 := ⟨f - 1, by omega⟩
        have K := hX post fr fo fh fb xs xe xz ho li fi mi hs sk ru rv ou ov sp R B hp f (by omega)
        have hz := R.1 t ht
        simp (disch := omega) only [wX_repeat_53, g0, tw_q65 hab hb, tw_r65, hz, forall_eq, nI_leI, nI_ltI, nI_eq, vp_in_nI, nI_clamp, nI_1, nI_add, tw_32, tw_32r, tw_p, sb_m1, tw_s1, tw_65, Nat.add_sub_cancel, tw_l0a, tw_l0b, tw_l0c, tw_l0d, tw_l0e, tw_l1a, tw_l1b, tw_l1c, tw_l1d, tw_l1e, tw_l2a, tw_l2b, tw_l2c, tw_l2d, tw_l2e, tw_l3a, tw_l3b, tw_l3c, tw_l3d, tw_l3e, tw_l4a, tw_l4b, tw_l4c, tw_l4d, tw_l4e, tw_l7a, tw_l7b, tw_l7c, tw_l7d, tw_l7e, tw_l31a, tw_l31b, tw_l31c, tw_l31d, tw_l31e, tw_l32a, tw_l32b, tw_l32c, tw_l32d, tw_l32e, tw_l63a, tw_l63b, tw_l63c, tw_l63d, tw_l63e, tw_l64a, tw_l64b, tw_l64c, tw_l64d, tw_l64e, true_implies, forall_const, not_true_eq_false, not_false_eq_true, false_implies, and_true, true_and, implies_true, and_self]
        by_cases c1 : nI a + nI k * x < 0
        · exact br_t c1 K
        · refine br_f c1 ?_
          by_cases c2 : 64 < nI b + nI k * x
          · exact br_t c2 K
          · refine br_f c2 (br_t ?_ K)
            rcases c with c | c | c
            · exact absurd c c1
            · exact absurd c c2
            · exact c
      · intro post ys ye yz mk R hp f hf
        obtain ⟨f, rfl⟩ : ∃ g, f = g + 1 := ⟨f - 1, by omega⟩
        have K := hY post ys ye yz mk R hp f (by omega)
        have hz := R.1 t ht
        simp (disch := omega) only [wY_repeat_55, g0, tw_q65 hab hb, tw_r65, hz, forall_eq, nI_leI, nI_ltI, nI_eq, vp_in_nI, nI_clamp, nI_1, nI_add, tw_32, tw_32r, tw_p, sb_m1, tw_s1, tw_65, Nat.add_sub_cancel, tw_l0a, tw_l0b, tw_l0c, tw_l0d, tw_l0e, tw_l1a, tw_l1b, tw_l1c, tw_l1d, tw_l1e, tw_l2a, tw_l2b, tw_l2c, tw_l2d, tw_l2e, tw_l3a, tw_l3b, tw_l3c, tw_l3d, tw_l3e, tw_l4a, tw_l4b, tw_l4c, tw_l4d, tw_l4e, tw_l7a, tw_l7b, tw_l7c, tw_l7d, tw_l7e, tw_l31a, tw_l31b, tw_l31c, tw_l31d, tw_l31e, tw_l32a, tw_l32b, tw_l32c, tw_l32d, tw_l32e, tw_l63a, tw_l63b, tw_l63c, tw_l63d, tw_l63e, tw_l64a, tw_l64b, tw_l64c, tw_l64d, tw_l64e, true_implies, forall_const, not_true_eq_false, not_false_eq_true, false_implies, and_true, true_and, implies_true, and_self]
        by_cases c1 : nI a + nI k * x < 0
        · exact br_t c1 K
        · refine br_f c1 ?_
          by_cases c2 : 64 < nI b + nI k * x
          · exact br_t c2 K
          · refine br_f c2 (br_t ?_ K)
            rcases c with c | c | c
            · exact absurd c c1
            · exact absurd c c2
            · exact c
    · have c1 : ¬ nI a + nI k * x < 0 := fun z => c (Or.inl z)
      have c2 : ¬ 64 < nI b + nI k * x := fun z => c (Or.inr (Or.inl z))
      have c3 : ¬ 32 ≤ N t := fun z => c (Or.inr (Or.inr z))
      obtain ⟨s, e, hse, he, e1, e2⟩ := tw_rep (by omega) h1 h2 hab hb c1 c2
      obtain ⟨N', S', E', ok', hX, hY⟩ := ih (k + 1) (by omega) (tk_iN N t) (tk_iS N S E t s e) (tk_iE N S E t s e) (tk_ok_in ok ht (by omega) hse he)
      refine ⟨N', S', E', ok', ?_, ?_⟩
      · intro post fr fo fh fb xs xe xz ho li fi mi hs sk ru rv ou ov sp R B hp f hf
        obtain ⟨f, rfl⟩ : ∃ g, f = g + 1 := ⟨f - 1, by omega⟩
        have hz := R.1 t ht
        simp (disch := omega) only [wX_repeat_53, g0, tw_q65 hab hb, tw_r65, hz, forall_eq, nI_leI, nI_ltI, nI_eq, vp_in_nI, nI_clamp, nI_1, nI_add, tw_32, tw_32r, tw_p, sb_m1, tw_s1, tw_65, Nat.add_sub_cancel, tw_l0a, tw_l0b, tw_l0c, tw_l0d, tw_l0e, tw_l1a, tw_l1b, tw_l1c, tw_l1d, tw_l1e, tw_l2a, tw_l2b, tw_l2c, tw_l2d, tw_l2e, tw_l3a, tw_l3b, tw_l3c, tw_l3d, tw_l3e, tw_l4a, tw_l4b, tw_l4c, tw_l4d, tw_l4e, tw_l7a, tw_l7b, tw_l7c, tw_l7d, tw_l7e, tw_l31a, tw_l31b, tw_l31c, tw_l31d, tw_l31e, tw_l32a, tw_l32b, tw_l32c, tw_l32d, tw_l32e, tw_l63a, tw_l63b, tw_l63c, tw_l63d, tw_l63e, tw_l64a, tw_l64b, tw_l64c, tw_l64d, tw_l64e, true_implies, forall_const, not_true_eq_false, not_false_eq_true, false_implies, and_true, true_and, implies_true, and_self]
        refine br_f c1 (br_f c2 (br_f c3 ?_))
        rw [e1, e2]
        refine xw_insert ok R ht (by omega) hse he (fun xs' xe' xz' R' => ?_)
        exact hX post fr fo fh (-1) xs' xe' xz' ho li fi mi hs sk ru rv ou ov sp R' tw_B1 hp f (by omega)
      · intro post ys ye yz mk R hp f hf
        obtain ⟨f, rfl⟩ : ∃ g, f = g + 1 := ⟨f - 1, by omega⟩
        have hz := R.1 t ht
        simp (disch := omega) only [wY_repeat_55, g0, tw_q65 hab hb, tw_r65, hz, forall_eq, nI_leI, nI_ltI, nI_eq, vp_in_nI, nI_clamp, nI_1, nI_add, tw_32, tw_32r, tw_p, sb_m1, tw_s1, tw_65, Nat.add_sub_cancel, tw_l0a, tw_l0b, tw_l0c, tw_l0d, tw_l0e, tw_l1a, tw_l1b, tw_l1c, tw_l1d, tw_l1e, tw_l2a, tw_l2b, tw_l2c, tw_l2d, tw_l2e, tw_l3a, tw_l3b, tw_l3c, tw_l3d, tw_l3e, tw_l4a, tw_l4b, tw_l4c, tw_l4d, tw_l4e, tw_l7a, tw_l7b, tw_l7c, tw_l7d, tw_l7e, tw_l31a, tw_l31b, tw_l31c, tw_l31d, tw_l31e, tw_l32a, tw_l32b, tw_l32c, tw_l32d, tw_l32e, tw_l63a, tw_l63b, tw_l63c, tw_l63d, tw_l63e, tw_l64a, tw_l64b, tw_l64c, tw_l64d, tw_l64e, true_implies, forall_const, not_true_eq_false, not_false_eq_true, false_implies, and_true, true_and, implies_true, and_self]
        refine br_f c1 (br_f c2 (br_f c3 ?_))
        rw [e1, e2]
        refine yw_insert ok R ht (by omega) hse he (fun ys' ye' yz' R' => ?_)
        exact hY post ys' ye' yz' mk R' hp f (by omega)
end
section
/-! the relation: both hold the same three tracks; what X has built for a track is right -/
def i_Rel (_ : Nat) (u : SX) (v : SY) : Prop := ∃ (N : Nat → Nat) (S E : Nat → Nat → Nat), tk_ok N S E ∧ (match u with | (fr, fo, fh, fb, xs, xe, xz, ho, li, fi, mi, hs, sk, ru, rv, ou, ov, sp) => tk_rx N S E xs xe xz ∧ tw_B N E fb li fi mi) ∧ (match v with | (ys, ye, yz, _) => tk_rx N S E ys ye yz)
theorem i_up {k : Nat} {u : SX} {v : SY} (h : i_Rel k u v) : i_Rel (k + 5) u v := h
theorem tw_rel {k : Nat} {fr fo fh fb : Int32} {xs xe xz ho li fi mi hs sk ru rv ou ov sp : Nat → Int32} {ys ye yz mk : Nat → Int32} {N : Nat → Nat} {S E : Nat → Nat → Nat} (ok : tk_ok N S E) (R : tk_rx N S E xs xe xz) (B : tw_B N E fb li fi mi) (Q : tk_rx N S E ys ye yz) : i_Rel k (fr, fo, fh, fb, xs, xe, xz, ho, li, fi, mi, hs, sk, ru, rv, ou, ov, sp) (ys, ye, yz, mk) := ⟨N, S, E, ok, ⟨R, B⟩, Q⟩
theorem tw_el {k : Nat} {u : SX} {v : SY} {P : SX → SY → Prop} (h : ∀ (N : Nat → Nat) (S E : Nat → Nat → Nat) (fr fo fh fb : Int32) (xs xe xz ho li fi mi hs sk ru rv ou ov sp ys ye yz mk : Nat → Int32), tk_ok N S E → tk_rx N S E xs xe xz → tw_B N E fb li fi mi → tk_rx N S E ys ye yz → P (fr, fo, fh, fb, xs, xe, xz, ho, li, fi, mi, hs, sk, ru, rv, ou, ov, sp) (ys, ye, yz, mk)) (I : i_Rel k u v) : P u v := by
  obtain ⟨N, S, E, ok, hx, hy⟩ := I
  obtain ⟨fr, fo, fh, fb, xs, xe, xz, ho, li, fi, mi, hs, sk, ru, rv, ou, ov, sp⟩ := u
  obtain ⟨ys, ye, yz, mk⟩ := v
  exact h N S E fr fo fh fb xs xe xz ho li fi mi hs sk ru rv ou ov sp ys ye yz mk ok hx.1 hx.2 hy
theorem tw_rx0 : tk_rx (fun _ => 0) (fun _ _ => 0) (fun _ _ => 0) (fun _ => 0) (fun _ => 0) (fun _ => 0) :=
  ⟨fun _ _ => rfl, fun _ _ i hi => absurd hi (Nat.not_lt_zero i), fun _ _ i hi => absurd hi (Nat.not_lt_zero i)⟩
theorem i_vc0 : wpX_init (fun u => wpY_init (fun v => i_Rel 0 u v)) := by
  unfold wpX_init wpY_init
  exact tw_rel (N := fun _ => 0) (S := fun _ _ => 0) (E := fun _ _ => 0) (fun t _ => ⟨Nat.zero_le _, tk_so_0⟩) tw_rx0 tw_B1 tw_rx0
theorem tw_cl {t : Nat} (h : t < 3) : (nI t).toNatClampNeg = t := nI_clamp (by omega)
theorem tw_in3 {t : Nat} (h : t < 3) : vp_in (nI t) 3 := vp_in_nI h (by decide)
theorem yw_nT {post : Int32 → Prop} {ys ye yz mk : Nat → Int32} {N : Nat → Nat} {S E : Nat → Nat → Nat} {t j : Nat} (ok : tk_ok N S E) (R : tk_rx N S E ys ye yz) (ht : t < 3) (hj : j < N t) (h : post 0) : wpY_badNumber post (ys, ye, yz, mk) (nI t) (nI j) := by
  have hn := (ok t ht).1
  have hz := R.1 t ht
  simp (disch := omega) only [wpY_badNumber, tw_nn, hz, hj, forall_eq, nI_leI, nI_ltI, nI_eq, vp_in_nI, nI_clamp, nI_1, nI_add, tw_32, tw_32r, tw_p, sb_m1, tw_s1, tw_65, Nat.add_sub_cancel, tw_l0a, tw_l0b, tw_l0c, tw_l0d, tw_l0e, tw_l1a, tw_l1b, tw_l1c, tw_l1d, tw_l1e, tw_l2a, tw_l2b, tw_l2c, tw_l2d, tw_l2e, tw_l3a, tw_l3b, tw_l3c, tw_l3d, tw_l3e, tw_l4a, tw_l4b, tw_l4c, tw_l4d, tw_l4e, tw_l7a, tw_l7b, tw_l7c, tw_l7d, tw_l7e, tw_l31a, tw_l31b, tw_l31c, tw_l31d, tw_l31e, tw_l32a, tw_l32b, tw_l32c, tw_l32d, tw_l32e, tw_l63a, tw_l63b, tw_l63c, tw_l63d, tw_l63e, tw_l64a, tw_l64b, tw_l64c, tw_l64d, tw_l64e, true_implies, forall_const, not_true_eq_false, not_false_eq_true, false_implies, and_true, true_and, implies_true, and_self]
  exact h
theorem yw_nF {post : Int32 → Prop} {ys ye yz mk : Nat → Int32} {N : Nat → Nat} {S E : Nat → Nat → Nat} {t j : Nat} (ok : tk_ok N S E) (R : tk_rx N S E ys ye yz) (ht : t < 3) (hj : ¬ j < N t) (hj2 : j < 2 ^ 31) (h : post 1) : wpY_badNumber post (ys, ye, yz, mk) (nI t) (nI j) := by
  have hn := (ok t ht).1
  have hz := R.1 t ht
  simp (disch := omega) only [wpY_badNumber, tw_nn, hz, hj, forall_eq, nI_leI, nI_ltI, nI_eq, vp_in_nI, nI_clamp, nI_1, nI_add, tw_32, tw_32r, tw_p, sb_m1, tw_s1, tw_65, Nat.add_sub_cancel, tw_l0a, tw_l0b, tw_l0c, tw_l0d, tw_l0e, tw_l1a, tw_l1b, tw_l1c, tw_l1d, tw_l1e, tw_l2a, tw_l2b, tw_l2c, tw_l2d, tw_l2e, tw_l3a, tw_l3b, tw_l3c, tw_l3d, tw_l3e, tw_l4a, tw_l4b, tw_l4c, tw_l4d, tw_l4e, tw_l7a, tw_l7b, tw_l7c, tw_l7d, tw_l7e, tw_l31a, tw_l31b, tw_l31c, tw_l31d, tw_l31e, tw_l32a, tw_l32b, tw_l32c, tw_l32d, tw_l32e, tw_l63a, tw_l63b, tw_l63c, tw_l63d, tw_l63e, tw_l64a, tw_l64b, tw_l64c, tw_l64d, tw_l64e, true_implies, forall_const, not_true_eq_false, not_false_eq_true, false_implies, and_true, true_and, implies_true, and_self]
  exact h
theorem yw_nN {post : Int32 → Prop} {ys ye yz mk : Nat → Int32} {x y : Int32} (hx : y < 0) (h : post 1) : wpY_badNumber post (ys, ye, yz, mk) x y := by
  unfold wpY_badNumber
  exact br_t hx h
theorem i_vc_add {k : Nat} {u : SX} {v : SY} (I : i_Rel k u v) (hk : k + 5 ≤ 2560) (v1 : Int32) (v2 : Int32) : wpX_add (fun r u' => wpY_add (fun r' v' => r' = r ∧ i_Rel (k + 5) u' v') v v1 v2) u v1 v2 := by
  refine tw_el (P := fun u v => wpX_add (fun r u' => wpY_add (fun r' v' => r' = r ∧ i_Rel (k + 5) u' v') v v1 v2) u v1 v2) ?_ I
  intro N S E fr fo fh fb xs xe xz ho li fi mi hs sk ru rv ou ov sp ys ye yz mk ok R B Q
  unfold wpX_add wpY_add
  dsimp only
  rcases tw_trk v1 with ⟨t, ht, rfl⟩ | hb1
  · refine tw_xT ht (br_f tw_10 ?_)
    by_cases q2 : tw_str v2
    · obtain ⟨a, b, hab, hb, rfl⟩ := q2
      have hn := (ok t ht).1
      have rz := R.1 t ht
      have qz := Q.1 t ht
      refine tw_xsT hab hb (br_f tw_10 ⟨tw_in3 ht, ?_⟩)
      simp only [tw_cl ht, rz, qz, tw_q65 hab hb, tw_r65]
      by_cases y : N t = 32
      · refine br_t (by rw [y]; rfl) ?_
        refine tw_yT ht (br_t rfl (tw_ysT hab hb (br_t rfl ⟨tw_in3 ht, br_f (nI_nlt (b := 32) (by omega) (by omega)) ⟨by trivial, tw_rel ok R B Q⟩⟩)))
      · refine br_f (fun z => y ((nI_eq (b := 32) (by omega) (by decide)).mp z)) ⟨tw_no65, tw_no65, ?_⟩
        refine xw_insert ok R ht (by omega) hab hb (fun xs' xe' xz' R' => ?_)
        refine And.intro (tw_in3 ht) ?_
        refine tw_yT ht (br_t rfl (tw_ysT hab hb (br_t rfl ⟨tw_in3 ht, br_t (nI_lt (b := 32) (by omega) (by decide)) ⟨tw_no65, tw_no65, ?_⟩⟩)))
        refine yw_insert ok Q ht (by omega) hab hb (fun ys' ye' yz' Q' => ?_)
        exact And.intro (tw_in3 ht) (And.intro ((Q'.1 t ht).trans (R'.1 t ht).symm) (tw_rel (tk_ok_in ok ht (by omega) hab hb) R' tw_B1 Q'))
    · exact tw_xsF q2 (br_t rfl (tw_yT ht (br_t rfl (tw_ysF q2 (br_f tw_10 ⟨by trivial, tw_rel ok R B Q⟩)))))
  · exact tw_xF hb1 (br_t rfl (tw_yF hb1 (br_f tw_10 ⟨by trivial, tw_rel ok R B Q⟩)))
theorem tw_lim {x : Int32} (h1 : ¬ x < -64) (h2 : x ≤ 64) : -64 ≤ x.toInt ∧ x.toInt ≤ 64 := by
  rw [Int32.lt_iff_toInt_lt, show (-64 : Int32).toInt = -64 from by decide] at h1
  rw [Int32.le_iff_toInt_le, show (64 : Int32).toInt = 64 from by decide] at h2
  omega
theorem i_vc_repeat {k : Nat} {u : SX} {v : SY} (I : i_Rel k u v) (hk : k + 5 ≤ 2560) (v1 : Int32) (v2 : Int32) (v3 : Int32) (v4 : Int32) : wpX_repeat (fun r u' => wpY_repeat (fun r' v' => r' = r ∧ i_Rel (k + 5) u' v') v v1 v2 v3 v4) u v1 v2 v3 v4 := by
  refine tw_el (P := fun u v => wpX_repeat (fun r u' => wpY_repeat (fun r' v' => r' = r ∧ i_Rel (k + 5) u' v') v v1 v2 v3 v4) u v1 v2 v3 v4) ?_ I
  intro N S E fr fo fh fb xs xe xz ho li fi mi hs sk ru rv ou ov sp ys ye yz mk ok R B Q
  unfold wpX_repeat wpY_repeat
  dsimp only
  rcases tw_trk v1 with ⟨t, ht, rfl⟩ | hb1
  · refine tw_xT ht (br_f tw_10 ?_)
    by_cases q2 : tw_str v2
    · obtain ⟨a, b, hab, hb, rfl⟩ := q2
      refine tw_xsT hab hb (br_f tw_10 ?_)
      by_cases q3 : v3 < -64
      · exact br_t q3 (tw_yT ht (br_t rfl (tw_ysT hab hb (br_t rfl (br_t q3 ⟨by trivial, tw_rel ok R B Q⟩)))))
      · refine br_f q3 ?_
        by_cases q4 : v3 ≤ 64
        · refine br_t q4 ?_
          by_cases q5 : v4 < 1
          · exact br_t q5 (tw_yT ht (br_t rfl (tw_ysT hab hb (br_t rfl (br_f q3 (br_t q4 (br_t q5 ⟨by trivial, tw_rel ok R B Q⟩)))))))
          · refine br_f q5 ?_
            by_cases q6 : v4 ≤ 32
            · refine br_t q6 ?_
              obtain ⟨q, hq, rfl⟩ : ∃ q : Nat, q ≤ 32 ∧ v4 = nI q := by
                refine nI_of2 (M := 32) (by decide) (fun z => q5 ?_) q6
                exact Int32.lt_trans z (by decide)
              have lm := tw_lim q3 q4
              obtain ⟨N', S', E', ok', hX, hY⟩ := w_rp (x := v3) (q := q) ht hab hb hq lm.1 lm.2 q 0 (by omega) N S E ok
              refine ⟨q + 1, hX _ fr fo fh fb xs xe xz ho li fi mi hs sk ru rv ou ov sp R B (fun fb' xs' xe' xz' R' B' => ?_) (q + 1) (by omega)⟩
              refine tw_yT ht (br_t rfl (tw_ysT hab hb (br_t rfl (br_f q3 (br_t q4 (br_f q5 (br_t q6 ⟨q + 1, ?_⟩)))))))
              exact hY _ ys ye yz mk Q (fun ys' ye' yz' Q' => ⟨rfl, tw_rel ok' R' B' Q'⟩) (q + 1) (by omega)
            · exact br_f q6 (tw_yT ht (br_t rfl (tw_ysT hab hb (br_t rfl (br_f q3 (br_t q4 (br_f q5 (br_f q6 ⟨by trivial, tw_rel ok R B Q⟩))))))))
        · exact br_f q4 (tw_yT ht (br_t rfl (tw_ysT hab hb (br_t rfl (br_f q3 (br_f q4 ⟨by trivial, tw_rel ok R B Q⟩))))))
    · exact tw_xsF q2 (br_t rfl (tw_yT ht (br_t rfl (tw_ysF q2 (br_f tw_10 ⟨by trivial, tw_rel ok R B Q⟩)))))
  · exact tw_xF hb1 (br_t rfl (tw_yF hb1 (br_f tw_10 ⟨by trivial, tw_rel ok R B Q⟩)))
theorem i_vc_remove {k : Nat} {u : SX} {v : SY} (I : i_Rel k u v) (hk : k + 5 ≤ 2560) (v1 : Int32) (v2 : Int32) : wpX_remove (fun r u' => wpY_remove (fun r' v' => r' = r ∧ i_Rel (k + 5) u' v') v v1 v2) u v1 v2 := by
  refine tw_el (P := fun u v => wpX_remove (fun r u' => wpY_remove (fun r' v' => r' = r ∧ i_Rel (k + 5) u' v') v v1 v2) u v1 v2) ?_ I
  intro N S E fr fo fh fb xs xe xz ho li fi mi hs sk ru rv ou ov sp ys ye yz mk ok R B Q
  unfold wpX_remove wpY_remove
  dsimp only
  rcases tw_trk v1 with ⟨t, ht, rfl⟩ | hb1
  · refine tw_xT ht (br_f tw_10 ?_)
    have hn := (ok t ht).1
    have rz := R.1 t ht
    by_cases q2 : v2 < 0
    · exact br_t q2 (tw_yT ht (br_t rfl (yw_nN q2 (br_f tw_10 ⟨by trivial, tw_rel ok R B Q⟩))))
    · obtain ⟨j, hj, rfl⟩ := nI_of q2
      refine br_f q2 ⟨tw_in3 ht, ?_⟩
      simp only [tw_cl ht, rz]
      by_cases y : j < N t
      · refine br_t (nI_lt y (by omega)) ?_
        refine xw_drop ok R ht y (fun xs' xe' xz' R' => ?_)
        refine And.intro (tw_in3 ht) ?_
        refine tw_yT ht (br_t rfl (yw_nT ok Q ht y (br_t rfl ?_)))
        refine yw_drop ok Q ht y (fun ys' ye' yz' Q' => ?_)
        exact And.intro (tw_in3 ht) (And.intro ((Q'.1 t ht).trans (R'.1 t ht).symm) (tw_rel (tk_ok_dr ok ht y) R' tw_B1 Q'))
      · refine br_f (nI_nlt (by omega) hj) ?_
        exact tw_yT ht (br_t rfl (yw_nF ok Q ht y hj (br_f tw_10 ⟨by trivial, tw_rel ok R B Q⟩)))
  · exact tw_xF hb1 (br_t rfl (tw_yF hb1 (br_f tw_10 ⟨by trivial, tw_rel ok R B Q⟩)))
theorem i_vc_clear {k : Nat} {u : SX} {v : SY} (I : i_Rel k u v) (hk : k + 5 ≤ 2560) (v1 : Int32) (v2 : Int32) : wpX_clear (fun r u' => wpY_clear (fun r' v' => r' = r ∧ i_Rel (k + 5) u' v') v v1 v2) u v1 v2 := by
  refine tw_el (P := fun u v => wpX_clear (fun r u' => wpY_clear (fun r' v' => r' = r ∧ i_Rel (k + 5) u' v') v v1 v2) u v1 v2) ?_ I
  intro N S E fr fo fh fb xs xe xz ho li fi mi hs sk ru rv ou ov sp ys ye yz mk ok R B Q
  unfold wpX_clear wpY_clear
  dsimp only
  rcases tw_trk v1 with ⟨t, ht, rfl⟩ | hb1
  · refine tw_xT ht (br_f tw_10 ?_)
    have hn := (ok t ht).1
    have rz := R.1 t ht
    have qz := Q.1 t ht
    by_cases q2 : tw_str v2
    · obtain ⟨a, b, hab, hb, rfl⟩ := q2
      refine tw_xsT hab hb (br_f tw_10 ⟨tw_in3 ht, ?_⟩)
      simp only [tw_cl ht, rz]
      obtain ⟨N', S', E', g', ok', hX, hY⟩ := w_cl ht hab hb (N t) N S E 0 ok (Nat.le_refl _)
      refine nm_e ⟨N t + 1, hX _ fr fo fh fb xs xe xz ho li fi mi hs sk ru rv ou ov sp R B (fun fb' xs' xe' xz' R' B' => ?_) (N t + 1) (by omega)⟩
      refine tw_yT ht (br_t rfl (tw_ysT hab hb (br_t rfl ⟨33, ?_⟩)))
      have K := yw_clk ht hn qz (fun f hf => hY (fun r' v' => r' = nI g' ∧ i_Rel (k + 5) (fr, fo, fh, fb', xs', xe', xz', ho, li, fi, mi, hs, sk, ru, rv, ou, ov, sp) v') ys ye yz mk Q (fun ys' ye' yz' Q' => ⟨rfl, tw_rel ok' R' B' Q'⟩) f hf) (32 - N t) (by omega) 33 (by omega)
      rw [show N t + (32 - N t) = 32 by omega] at K
      exact K
    · exact tw_xsF q2 (br_t rfl (tw_yT ht (br_t rfl (tw_ysF q2 (br_f tw_10 ⟨by trivial, tw_rel ok R B Q⟩)))))
  · exact tw_xF hb1 (br_t rfl (tw_yF hb1 (br_f tw_10 ⟨by trivial, tw_rel ok R B Q⟩)))
theorem i_vc_merge {k : Nat} {u : SX} {v : SY} (I : i_Rel k u v) (hk : k + 5 ≤ 2560) (v1 : Int32) : wpX_merge (fun r u' => wpY_merge (fun r' v' => r' = r ∧ i_Rel (k + 5) u' v') v v1) u v1 := by
  refine tw_el (P := fun u v => wpX_merge (fun r u' => wpY_merge (fun r' v' => r' = r ∧ i_Rel (k + 5) u' v') v v1) u v1) ?_ I
  intro N S E fr fo fh fb xs xe xz ho li fi mi hs sk ru rv ou ov sp ys ye yz mk ok R B Q
  unfold wpX_merge wpY_merge
  dsimp only
  rcases tw_trk v1 with ⟨t, ht, rfl⟩ | hb1
  · refine tw_xT ht (br_f tw_10 ?_)
    refine xw_take ok R ht (fun r rs re ru rv nf h1 h2 => ?_)
    have ln := tk_nf_len nf
    refine xw_store ok R ht (by omega) h1 h2 (fun xs' xe' xz' R' => ?_)
    refine tw_yT ht (br_t rfl ⟨65, ?_⟩)
    refine yw_mer ok Q ht (fun c s e ys' ye' yz' mk' nf' ok' Q' => ?_) 64 0 (by omega) mk (fun q hq => absurd hq (Nat.not_lt_zero q)) 65 (by omega)
    obtain ⟨e1, e2⟩ := tk_nf_eq nf nf'
    exact And.intro (congrArg nI e1) (tw_rel (tk_ok_st ok (by omega) (tk_so_nf nf)) R' tw_B1 (tk_rx_fn Q' e1 e2))
  · exact tw_xF hb1 (br_t rfl (tw_yF hb1 (br_f tw_10 ⟨by trivial, tw_rel ok R B Q⟩)))
theorem xw_join {post : Int32 → SX → Prop} {fr fo fh fb : Int32} {xs xe xz ho li fi mi hs sk ru rv ou ov sp : Nat → Int32} {N : Nat → Nat} {S E : Nat → Nat → Nat} {d t w : Nat} (hd : d < 4) (ok : tk_ok N S E) (R : tk_rx N S E xs xe xz) (ht : t < 3) (hw : w < 3)
    (hp : ∀ (r : Nat) (rs re : Nat → Nat) (fr fo : Int32) (ru rv ou ov sp xs' xe' xz' : Nat → Int32), tk_nf r rs re (tk_W d (tk_cv (N t) (S t) (E t)) (tk_cv (N w) (S w) (E w))) 65 → tk_rx (tk_st N t r) (tk_st S t rs) (tk_st E t re) xs' xe' xz' → post (nI r) (fr, fo, fh, -1, xs', xe', xz', ho, li, fi, mi, hs, sk, ru, rv, ou, ov, sp)) : wpX_join post (fr, fo, fh, fb, xs, xe, xz, ho, li, fi, mi, hs, sk, ru, rv, ou, ov, sp) (nI d) (nI t) (nI w) := by
  unfold wpX_join
  dsimp only
  refine br_f (nI_pos (by omega)) (br_t (nI_le (b := 3) (by omega) (by decide)) (tw_xT ht (br_f tw_10 (tw_xT hw (br_f tw_10 ?_)))))
  refine xw_take ok R hw (fun r rs re ru rv nf h1 h2 => ?_)
  dsimp only
  have ln := tk_nf_len nf
  refine xw_keep (by omega) (fun ou' ov' h3 h4 => ?_)
  dsimp only
  refine xw_take ok R ht (fun r2 rs2 re2 ru2 rv2 nf2 h5 h6 => ?_)
  dsimp only
  refine xw_walk hd nf2 nf h5 h6 (fun j hj => (h3 j hj).trans (h1 j hj)) (fun j hj => (h4 j hj).trans (h2 j hj)) (fun r3 rs3 re3 ru3 rv3 sp3 nf3 h7 h8 => ?_)
  dsimp only
  have ln3 := tk_nf_len nf3
  refine xw_store ok R ht (by omega) h7 h8 (fun xs' xe' xz' R' => ?_)
  dsimp only
  have e3 := R'.1 t ht
  rw [tk_st_at] at e3
  have K := hp r3 rs3 re3 (nI r3) (nI r) ru3 rv3 ou' ov' sp3 xs' xe' xz' nf3 R'
  refine And.intro (tw_in3 ht) ?_
  rw [tw_cl ht, e3]
  exact K
theorem yw_join {post : Int32 → SY → Prop} {ys ye yz mk : Nat → Int32} {N : Nat → Nat} {S E : Nat → Nat → Nat} {d t w : Nat} (hd : d < 4) (ok : tk_ok N S E) (R : tk_rx N S E ys ye yz) (ht : t < 3) (hw : w < 3)
    (hp : ∀ (c : Nat) (s e : Nat → Nat) (ys ye yz mk : Nat → Int32), tk_nf c s e (tk_W d (tk_cv (N t) (S t) (E t)) (tk_cv (N w) (S w) (E w))) 65 → tk_rx (tk_st N t c) (tk_st S t s) (tk_st E t e) ys ye yz → post (nI c) (ys, ye, yz, mk)) : wpY_join post (ys, ye, yz, mk) (nI d) (nI t) (nI w) := by
  unfold wpY_join
  dsimp only
  refine br_f (nI_pos (by omega)) (br_t (nI_le (b := 3) (by omega) (by decide)) (tw_yT ht (br_t rfl (tw_yT hw (br_t rfl ⟨65, ?_⟩)))))
  exact yw_joi hd ok R ht hw (fun c s e ys ye yz mk nf _ R' => hp c s e ys ye yz mk nf R') 64 0 (by omega) mk (fun q hq => absurd hq (Nat.not_lt_zero q)) 65 (by omega)
theorem i_vc_join {k : Nat} {u : SX} {v : SY} (I : i_Rel k u v) (hk : k + 5 ≤ 2560) (v1 : Int32) (v2 : Int32) (v3 : Int32) : wpX_join (fun r u' => wpY_join (fun r' v' => r' = r ∧ i_Rel (k + 5) u' v') v v1 v2 v3) u v1 v2 v3 := by
  refine tw_el (P := fun u v => wpX_join (fun r u' => wpY_join (fun r' v' => r' = r ∧ i_Rel (k + 5) u' v') v v1 v2 v3) u v1 v2 v3) ?_ I
  intro N S E fr fo fh fb xs xe xz ho li fi mi hs sk ru rv ou ov sp ys ye yz mk ok R B Q
  by_cases q1 : v1 < 0
  · unfold wpX_join wpY_join
    exact br_t q1 (br_t q1 ⟨by trivial, tw_rel ok R B Q⟩)
  · by_cases q2 : v1 ≤ 3
    · rcases tw_trk v2 with ⟨t, ht, rfl⟩ | hb2
      · rcases tw_trk v3 with ⟨w, hw, rfl⟩ | hb3
        · obtain ⟨d, hd, rfl⟩ := nI_of2 (M := 3) (n := 3) (by decide) q1 q2
          refine xw_join (by omega) ok R ht hw (fun r rs re fr fo ru rv ou ov sp xs' xe' xz' nf R' => ?_)
          have ln := tk_nf_len nf
          refine yw_join (by omega) ok Q ht hw (fun c s e ys' ye' yz' mk' nf' Q' => ?_)
          have ee := tk_nf_eq nf nf'
          exact And.intro (congrArg nI ee.1) (tw_rel (tk_ok_st ok (by omega) (tk_so_nf nf)) R' tw_B1 (tk_rx_fn Q' ee.1 ee.2))
        · unfold wpX_join wpY_join
          exact br_f q1 (br_t q2 (tw_xT ht (br_f tw_10 (tw_xF hb3 (br_t rfl (br_f q1 (br_t q2 (tw_yT ht (br_t rfl (tw_yF hb3 (br_f tw_10 ⟨by trivial, tw_rel ok R B Q⟩)))))))))))
      · unfold wpX_join wpY_join
        exact br_f q1 (br_t q2 (tw_xF hb2 (br_t rfl (br_f q1 (br_t q2 (tw_yF hb2 (br_f tw_10 ⟨by trivial, tw_rel ok R B Q⟩)))))))
    · unfold wpX_join wpY_join
      exact br_f q1 (br_f q2 (br_f q1 (br_f q2 ⟨by trivial, tw_rel ok R B Q⟩)))
theorem i_vc_complement {k : Nat} {u : SX} {v : SY} (I : i_Rel k u v) (hk : k + 5 ≤ 2560) (v1 : Int32) : wpX_complement (fun r u' => wpY_complement (fun r' v' => r' = r ∧ i_Rel (k + 5) u' v') v v1) u v1 := by
  refine tw_el (P := fun u v => wpX_complement (fun r u' => wpY_complement (fun r' v' => r' = r ∧ i_Rel (k + 5) u' v') v v1) u v1) ?_ I
  intro N S E fr fo fh fb xs xe xz ho li fi mi hs sk ru rv ou ov sp ys ye yz mk ok R B Q
  unfold wpX_complement wpY_complement
  dsimp only
  rcases tw_trk v1 with ⟨t, ht, rfl⟩ | hb1
  · refine tw_xT ht (br_f tw_10 ?_)
    refine xw_take ok R ht (fun r rs re ru rv nf h1 h2 => ?_)
    refine And.intro (tw_in3 ht) ?_
    simp only [tw_cl ht]
    refine nm_e ⟨r + 1, ?_⟩
    refine xw_com (N := N) (S := S) (E := E) ht nf h1 h2 (fun c s e xs' xe' xz' nfc ok' R' => ?_) r 0 (by omega) 0 0 (fun _ => 0) (fun _ => 0) fb xs xe (upd xz t 0) (fun _ => rfl) (fun z => absurd z (Nat.lt_irrefl 0)) tk_nf_0 (tk_ok_st ok (by omega) tk_so_0)
      ⟨tk_pz_st R.1 rfl, tk_pa_st R.2.1 (tk_ok_N ok) (fun i hi => absurd hi (Nat.not_lt_zero i)) (fun j _ => rfl), tk_pa_st R.2.2 (tk_ok_N ok) (fun i hi => absurd hi (Nat.not_lt_zero i)) (fun j _ => rfl)⟩ (r + 1) (by omega)
    refine tw_yT ht (br_t rfl ⟨65, ?_⟩)
    refine yw_com ok Q ht (fun c' s' e' ys' ye' yz' mk' nf' ok2 Q' => ?_) 64 0 (by omega) mk (fun q hq => absurd hq (Nat.not_lt_zero q)) 65 (by omega)
    obtain ⟨e1, e2⟩ := tk_nf_eq nfc nf'
    exact And.intro (congrArg nI e1) (tw_rel ok' R' tw_B1 (tk_rx_fn Q' e1 e2))
  · exact tw_xF hb1 (br_t rfl (tw_yF hb1 (br_f tw_10 ⟨by trivial, tw_rel ok R B Q⟩)))
theorem i_vc_copy {k : Nat} {u : SX} {v : SY} (I : i_Rel k u v) (hk : k + 5 ≤ 2560) (v1 : Int32) (v2 : Int32) : wpX_copy (fun r u' => wpY_copy (fun r' v' => r' = r ∧ i_Rel (k + 5) u' v') v v1 v2) u v1 v2 := by
  refine tw_el (P := fun u v => wpX_copy (fun r u' => wpY_copy (fun r' v' => r' = r ∧ i_Rel (k + 5) u' v') v v1 v2) u v1 v2) ?_ I
  intro N S E fr fo fh fb xs xe xz ho li fi mi hs sk ru rv ou ov sp ys ye yz mk ok R B Q
  unfold wpX_copy wpY_copy
  dsimp only
  rcases tw_trk v1 with ⟨t, ht, rfl⟩ | hb1
  · refine tw_xT ht (br_f tw_10 ?_)
    rcases tw_trk v2 with ⟨w, hw, rfl⟩ | hb2
    · refine tw_xT hw (br_f tw_10 ⟨tw_in3 hw, tw_in3 ht, ?_⟩)
      have hn := (ok w hw).1
      have rz := R.1 w hw
      have qz := Q.1 w hw
      simp only [tw_cl ht, tw_cl hw, rz]
      refine nm_e ⟨N w + 1, ?_⟩
      refine xw_cp ht hw hn (by
        by_cases y : w = t
        · rw [y, pk_us]
        · rw [pk_un y]; exact rz) pk_us (N w) 0 (by omega) xs xe ?_ (N w + 1) (by omega)
      refine tw_yT ht (br_t rfl (tw_yT hw (br_t rfl ⟨33, ?_⟩)))
      refine yw_cp ht hw qz 32 0 (by omega) ys ye ?_ 33 (by omega)
      refine And.intro rfl (tw_rel (tk_ok_st (t := t) ok hn (ok w hw).2) (tk_rx_cw ok R hw (Nat.le_refl _) hn) tw_B1 (tk_rx_cw ok Q hw hn (Nat.le_refl _)))
    · exact tw_xF hb2 (br_t rfl (tw_yT ht (br_t rfl (tw_yF hb2 (br_f tw_10 ⟨by trivial, tw_rel ok R B Q⟩)))))
  · exact tw_xF hb1 (br_t rfl (tw_yF hb1 (br_f tw_10 ⟨by trivial, tw_rel ok R B Q⟩)))
end
section
/-! the questions -/
theorem i_vc_size {k : Nat} {u : SX} {v : SY} (I : i_Rel k u v) (hk : k + 5 ≤ 2560) (v1 : Int32) : wpX_size (fun r => wpY_size (fun r' => r' = r ∧ i_Rel (k + 5) u v) v v1) u v1 := by
  refine tw_el (P := fun u v => wpX_size (fun r => wpY_size (fun r' => r' = r ∧ i_Rel (k + 5) u v) v v1) u v1) ?_ I
  intro N S E fr fo fh fb xs xe xz ho li fi mi hs sk ru rv ou ov sp ys ye yz mk ok R B Q
  unfold wpX_size wpY_size
  dsimp only
  rcases tw_trk v1 with ⟨t, ht, rfl⟩ | hb1
  · refine tw_xT ht (br_f tw_10 ⟨tw_in3 ht, tw_yT ht (br_t rfl ⟨tw_in3 ht, ?_, tw_rel ok R B Q⟩)⟩)
    rw [tw_cl ht]
    exact (Q.1 t ht).trans (R.1 t ht).symm
  · exact tw_xF hb1 (br_t rfl (tw_yF hb1 (br_f tw_10 ⟨by trivial, tw_rel ok R B Q⟩)))
theorem i_vc_stretch {k : Nat} {u : SX} {v : SY} (I : i_Rel k u v) (hk : k + 5 ≤ 2560) (v1 : Int32) (v2 : Int32) : wpX_stretch (fun r => wpY_stretch (fun r' => r' = r ∧ i_Rel (k + 5) u v) v v1 v2) u v1 v2 := by
  refine tw_el (P := fun u v => wpX_stretch (fun r => wpY_stretch (fun r' => r' = r ∧ i_Rel (k + 5) u v) v v1 v2) u v1 v2) ?_ I
  intro N S E fr fo fh fb xs xe xz ho li fi mi hs sk ru rv ou ov sp ys ye yz mk ok R B Q
  unfold wpX_stretch wpY_stretch
  dsimp only
  rcases tw_trk v1 with ⟨t, ht, rfl⟩ | hb1
  · have hn := (ok t ht).1
    have rz := R.1 t ht
    refine tw_xT ht (br_f tw_10 ?_)
    by_cases q2 : v2 < 0
    · exact br_t q2 (tw_yT ht (br_t rfl (yw_nN q2 (br_f tw_10 ⟨by trivial, tw_rel ok R B Q⟩))))
    · obtain ⟨j, hj, rfl⟩ := nI_of q2
      refine br_f q2 ⟨tw_in3 ht, ?_⟩
      rw [tw_cl ht, rz]
      by_cases y : j < N t
      · have e1 : (32 : Int32) * nI t + nI j = nI (32 * t + j) := by rw [tw_32, nI_add]
        have e2 : nI t * (32 : Int32) + nI j = nI (32 * t + j) := by rw [tw_32r, nI_add]
        have i0 : vp_in (nI (32 * t + j)) 96 := vp_in_nI (by omega) (by decide)
        have c0 : (nI (32 * t + j)).toNatClampNeg = 32 * t + j := nI_clamp (by omega)
        rw [e1, e2, c0]
        refine br_f (nI_ge y (by omega)) ⟨i0, i0, tw_yT ht (br_t rfl (yw_nT ok Q ht y (br_t rfl ⟨i0, i0, ?_, tw_rel ok R B Q⟩)))⟩
        rw [R.2.1 t ht j y, R.2.2 t ht j y, Q.2.1 t ht j y, Q.2.2 t ht j y]
      · refine br_t (nI_le (by omega) hj) ?_
        exact tw_yT ht (br_t rfl (yw_nF ok Q ht y hj (br_f tw_10 ⟨by trivial, tw_rel ok R B Q⟩)))
  · exact tw_xF hb1 (br_t rfl (tw_yF hb1 (br_f tw_10 ⟨by trivial, tw_rel ok R B Q⟩)))
theorem i_vc_overlapping {k : Nat} {u : SX} {v : SY} (I : i_Rel k u v) (hk : k + 5 ≤ 2560) (v1 : Int32) (v2 : Int32) : wpX_overlapping (fun r u' => wpY_overlapping (fun r' => r' = r ∧ i_Rel (k + 5) u' v) v v1 v2) u v1 v2 := by
  refine tw_el (P := fun u v => wpX_overlapping (fun r u' => wpY_overlapping (fun r' => r' = r ∧ i_Rel (k + 5) u' v) v v1 v2) u v1 v2) ?_ I
  intro N S E fr fo fh fb xs xe xz ho li fi mi hs sk ru rv ou ov sp ys ye yz mk ok R B Q
  unfold wpX_overlapping
  dsimp only
  rcases tw_trk v1 with ⟨t, ht, rfl⟩ | hb1
  · refine tw_xT ht (br_f tw_10 ?_)
    by_cases q2 : tw_str v2
    · obtain ⟨a, b, hab, hb, rfl⟩ := q2
      refine tw_xsT hab hb (br_f tw_10 ⟨tw_no65, tw_no65, ?_⟩)
      rw [tw_q65 hab hb, tw_r65]
      refine xw_find ok R ht (B t ht) (by omega) (by omega) (fun c H ho li fi mi hs sk en hh bd => ?_)
      dsimp only
      refine yw_overlapping ok Q ht hab hb ⟨?_, tw_rel ok R (tw_Bt ht bd) Q⟩
      rw [tk_en_n en]
    · unfold wpY_overlapping
      exact tw_xsF q2 (br_t rfl (tw_yT ht (br_t rfl (tw_ysF q2 (br_f tw_10 ⟨by trivial, tw_rel ok R B Q⟩)))))
  · unfold wpY_overlapping
    exact tw_xF hb1 (br_t rfl (tw_yF hb1 (br_f tw_10 ⟨by trivial, tw_rel ok R B Q⟩)))
theorem i_vc_overlap {k : Nat} {u : SX} {v : SY} (I : i_Rel k u v) (hk : k + 5 ≤ 2560) (v1 : Int32) (v2 : Int32) (v3 : Int32) : wpX_overlap (fun r u' => wpY_overlap (fun r' => r' = r ∧ i_Rel (k + 5) u' v) v v1 v2 v3) u v1 v2 v3 := by
  refine tw_el (P := fun u v => wpX_overlap (fun r u' => wpY_overlap (fun r' => r' = r ∧ i_Rel (k + 5) u' v) v v1 v2 v3) u v1 v2 v3) ?_ I
  intro N S E fr fo fh fb xs xe xz ho li fi mi hs sk ru rv ou ov sp ys ye yz mk ok R B Q
  unfold wpX_overlap
  dsimp only
  rcases tw_trk v1 with ⟨t, ht, rfl⟩ | hb1
  · refine tw_xT ht (br_f tw_10 ?_)
    by_cases q2 : tw_str v2
    · obtain ⟨a, b, hab, hb, rfl⟩ := q2
      refine tw_xsT hab hb (br_f tw_10 ⟨tw_no65, tw_no65, ?_⟩)
      rw [tw_q65 hab hb, tw_r65]
      refine xw_find ok R ht (B t ht) (by omega) (by omega) (fun c H ho li fi mi hs sk en hh bd => ?_)
      dsimp only
      have J : i_Rel (k + 5) (fr, fo, nI c, nI t, xs, xe, xz, ho, li, fi, mi, hs, sk, ru, rv, ou, ov, sp) (ys, ye, yz, mk) := tw_rel ok R (tw_Bt ht bd) Q
      have hn := (ok t ht).1
      have hc := tk_en_le en
      have Y : ∀ post : Int32 → Prop, (∀ j, j < N t → tk_hp (S t) (E t) a b j = true → nI (tk_cb (tk_hp (S t) (E t) a b) j) = v3 → post (nI j)) → ((∀ j, j < N t → tk_hp (S t) (E t) a b j = true → ¬ nI (tk_cb (tk_hp (S t) (E t) a b) j) = v3) → post (-3)) → wpY_overlap post (ys, ye, yz, mk) (nI t) (nI (65 * a + b)) v3 := by
        intro post h1 h2
        unfold wpY_overlap
        exact tw_yT ht (br_t rfl (tw_ysT hab hb (br_t rfl ⟨N t + 1, yw_ov1 ok Q ht hab hb h1 h2 (N t) 0 (by omega) (fun j hj => absurd hj (Nat.not_lt_zero j)) (N t + 1) (by omega)⟩)))
      have cl : ∀ j, tk_cb (tk_hp (S t) (E t) a b) j < 2 ^ 31 ∨ N t ≤ j := by
        intro j
        have z := tk_cb_le (tk_hp (S t) (E t) a b) j
        omega
      by_cases q3 : v3 < 0
      · refine br_t q3 (Y _ (fun j hj _ e => ?_) (fun _ => ⟨rfl, J⟩))
        have z := tk_cb_le (tk_hp (S t) (E t) a b) j
        exact absurd (e ▸ q3) (nI_pos (by omega))
      · obtain ⟨q, hq, rfl⟩ := nI_of q3
        refine br_f q3 ?_
        by_cases y : c ≤ q
        · refine br_t (nI_le y hq) (Y _ (fun j hj hpj e => ?_) (fun _ => ⟨rfl, J⟩))
          have z := tk_cb_le (tk_hp (S t) (E t) a b) j
          rw [nI_eq (by omega) hq] at e
          obtain ⟨m, hm, em⟩ := en.2.2 j hj hpj
          have e2 := tk_en_at en m hm
          rw [em] at e2
          omega
        · have i0 : vp_in (nI q) 32 := vp_in_nI (by omega) (by decide)
          have c0 : (nI q).toNatClampNeg = q := nI_clamp (by omega)
          refine br_f (nI_ge (by omega) (by omega)) ⟨i0, Y _ (fun j hj hpj e => ⟨?_, J⟩) (fun z => ?_)⟩
          · have z := tk_cb_le (tk_hp (S t) (E t) a b) j
            rw [nI_eq (by omega) hq] at e
            obtain ⟨m, hm, em⟩ := en.2.2 j hj hpj
            have e2 := tk_en_at en m hm
            rw [em] at e2
            have e3 : m = q := by omega
            rw [c0, hh q (by omega), ← em, e3]
          · have z2 := en.1 q (by omega)
            exact absurd (congrArg nI (tk_en_at en q (by omega))) (z (H q) z2.1 z2.2)
    · unfold wpY_overlap
      exact tw_xsF q2 (br_t rfl (tw_yT ht (br_t rfl (tw_ysF q2 (br_f tw_10 ⟨by trivial, tw_rel ok R B Q⟩)))))
  · unfold wpY_overlap
    exact tw_xF hb1 (br_t rfl (tw_yF hb1 (br_f tw_10 ⟨by trivial, tw_rel ok R B Q⟩)))
theorem i_vc_around {k : Nat} {u : SX} {v : SY} (I : i_Rel k u v) (hk : k + 5 ≤ 2560) (v1 : Int32) (v2 : Int32) : wpX_around (fun r u' => wpY_around (fun r' => r' = r ∧ i_Rel (k + 5) u' v) v v1 v2) u v1 v2 := by
  refine tw_el (P := fun u v => wpX_around (fun r u' => wpY_around (fun r' => r' = r ∧ i_Rel (k + 5) u' v) v v1 v2) u v1 v2) ?_ I
  intro N S E fr fo fh fb xs xe xz ho li fi mi hs sk ru rv ou ov sp ys ye yz mk ok R B Q
  unfold wpX_around
  dsimp only
  rcases tw_trk v1 with ⟨t, ht, rfl⟩ | hb1
  · refine tw_xT ht (br_f tw_10 ?_)
    by_cases q2 : tw_str v2
    · obtain ⟨a, b, hab, hb, rfl⟩ := q2
      refine tw_xsT hab hb (br_f tw_10 ⟨tw_no65, ?_⟩)
      simp only [tw_q65 hab hb, tw_r65, forall_eq]
      refine ⟨tw_no65, ?_⟩
      rw [nI_1]
      refine xw_find ok R ht (B t ht) (by omega) (by omega) (fun c H ho li fi mi hs sk en hh bd => ?_)
      dsimp only
      have hn := (ok t ht).1
      have hc := tk_en_le en
      refine ⟨c + 1, xw_aro ht hn hb (by omega) (fun j hj => (en.1 j hj).1) (fun i hi => ((ok t ht).2.1 i hi).2) (R.2.2 t ht) hh ?_ c 0 (by omega) (c + 1) (by omega)⟩
      rw [tk_ar_eq hab en]
      unfold wpY_around
      exact tw_yT ht (br_t rfl (tw_ysT hab hb (br_t rfl ⟨N t + 1, yw_aro ok Q ht hab hb ⟨rfl, tw_rel ok R (tw_Bt ht bd) Q⟩ (N t) 0 (by omega) (N t + 1) (by omega)⟩)))
    · unfold wpY_around
      exact tw_xsF q2 (br_t rfl (tw_yT ht (br_t rfl (tw_ysF q2 (br_f tw_10 ⟨by trivial, tw_rel ok R B Q⟩)))))
  · unfold wpY_around
    exact tw_xF hb1 (br_t rfl (tw_yF hb1 (br_f tw_10 ⟨by trivial, tw_rel ok R B Q⟩)))
theorem tk_hp_dp {n p : Nat} {s e : Nat → Nat} : tk_cb (tk_hp s e p (p + 1)) n = tk_dp n s e p := by
  refine tk_cb_congr n (fun i hi => ?_)
  exact decide_eq_decide.mpr (by omega)
theorem i_vc_depth {k : Nat} {u : SX} {v : SY} (I : i_Rel k u v) (hk : k + 5 ≤ 2560) (v1 : Int32) (v2 : Int32) : wpX_depth (fun r u' => wpY_depth (fun r' => r' = r ∧ i_Rel (k + 5) u' v) v v1 v2) u v1 v2 := by
  refine tw_el (P := fun u v => wpX_depth (fun r u' => wpY_depth (fun r' => r' = r ∧ i_Rel (k + 5) u' v) v v1 v2) u v1 v2) ?_ I
  intro N S E fr fo fh fb xs xe xz ho li fi mi hs sk ru rv ou ov sp ys ye yz mk ok R B Q
  unfold wpX_depth wpY_depth
  dsimp only
  rcases tw_trk v1 with ⟨t, ht, rfl⟩ | hb1
  · refine tw_xT ht (br_f tw_10 ?_)
    by_cases q2 : v2 < 0
    · exact br_t q2 (tw_yT ht (br_t rfl (br_t q2 ⟨by trivial, tw_rel ok R B Q⟩)))
    · obtain ⟨j, hj, rfl⟩ := nI_of q2
      refine br_f q2 ?_
      by_cases y : j < 64
      · refine br_t (nI_lt (b := 64) y (by decide)) ?_
        rw [nI_1]
        refine xw_find ok R ht (B t ht) (by omega) (by omega) (fun c H ho li fi mi hs sk en hh bd => ?_)
        dsimp only
        refine tw_yT ht (br_t rfl (br_f q2 (br_t (nI_le (b := 63) (by omega) (by decide)) (yw_deep ok Q ht y ⟨?_, tw_rel ok R (tw_Bt ht bd) Q⟩))))
        rw [← tk_hp_dp, tk_en_n en]
      · refine br_f (nI_nlt (b := 64) (by omega) hj) ?_
        exact tw_yT ht (br_t rfl (br_f q2 (br_f (nI_ge (a := 63) (by omega) hj) ⟨by trivial, tw_rel ok R B Q⟩)))
  · exact tw_xF hb1 (br_t rfl (tw_yF hb1 (br_f tw_10 ⟨by trivial, tw_rel ok R B Q⟩)))
theorem i_vc_deepest {k : Nat} {u : SX} {v : SY} (I : i_Rel k u v) (hk : k + 5 ≤ 2560) (v1 : Int32) : wpX_deepest (fun r u' => wpY_deepest (fun r' => r' = r ∧ i_Rel (k + 5) u' v) v v1) u v1 := by
  refine tw_el (P := fun u v => wpX_deepest (fun r u' => wpY_deepest (fun r' => r' = r ∧ i_Rel (k + 5) u' v) v v1) u v1) ?_ I
  intro N S E fr fo fh fb xs xe xz ho li fi mi hs sk ru rv ou ov sp ys ye yz mk ok R B Q
  unfold wpX_deepest wpY_deepest
  dsimp only
  rcases tw_trk v1 with ⟨t, ht, rfl⟩ | hb1
  · refine tw_xT ht (br_f tw_10 ?_)
    refine xw_count ok R ht (fun sp hsp => ?_)
    dsimp only
    refine ⟨65, xw_dst (ok t ht).1 (fun q => tk_dp_le (N t) (S t) (E t) q) hsp ?_ 64 0 (by omega) 65 (by omega)⟩
    exact tw_yT ht (br_t rfl ⟨65, yw_dst ok Q ht ⟨rfl, tw_rel ok R B Q⟩ 64 0 (by omega) 65 (by omega)⟩)
  · exact tw_xF hb1 (br_t rfl (tw_yF hb1 (br_f tw_10 ⟨by trivial, tw_rel ok R B Q⟩)))
theorem i_vc_covered {k : Nat} {u : SX} {v : SY} (I : i_Rel k u v) (hk : k + 5 ≤ 2560) (v1 : Int32) (v2 : Int32) : wpX_covered (fun r u' => wpY_covered (fun r' => r' = r ∧ i_Rel (k + 5) u' v) v v1 v2) u v1 v2 := by
  refine tw_el (P := fun u v => wpX_covered (fun r u' => wpY_covered (fun r' => r' = r ∧ i_Rel (k + 5) u' v) v v1 v2) u v1 v2) ?_ I
  intro N S E fr fo fh fb xs xe xz ho li fi mi hs sk ru rv ou ov sp ys ye yz mk ok R B Q
  unfold wpX_covered wpY_covered
  dsimp only
  rcases tw_trk v1 with ⟨t, ht, rfl⟩ | hb1
  · refine tw_xT ht (br_f tw_10 ?_)
    by_cases q2 : v2 < 0
    · exact br_t q2 (tw_yT ht (br_t rfl (br_t q2 ⟨by trivial, tw_rel ok R B Q⟩)))
    · refine br_f q2 ?_
      by_cases q3 : v2 ≤ 32
      · refine br_t q3 ?_
        obtain ⟨d, hd, rfl⟩ := nI_of2 (M := 32) (n := 32) (by decide) q2 q3
        refine xw_count ok R ht (fun sp hsp => ?_)
        dsimp only
        refine ⟨65, xw_cov (ok t ht).1 hd (fun q => tk_dp_le (N t) (S t) (E t) q) hsp ?_ 64 0 (by omega) 65 (by omega)⟩
        exact tw_yT ht (br_t rfl (br_f q2 (br_t q3 ⟨65, yw_cov ok Q ht hd ⟨rfl, tw_rel ok R B Q⟩ 64 0 (by omega) 65 (by omega)⟩)))
      · exact br_f q3 (tw_yT ht (br_t rfl (br_f q2 (br_f q3 ⟨by trivial, tw_rel ok R B Q⟩))))
  · exact tw_xF hb1 (br_t rfl (tw_yF hb1 (br_f tw_10 ⟨by trivial, tw_rel ok R B Q⟩)))
theorem tw_no3 : ¬ (0 : Int32) ≤ -3 := by decide
theorem tw_no2 : ¬ (0 : Int32) ≤ -2 := by decide
theorem tw_no1 : ¬ (0 : Int32) ≤ -1 := by decide
theorem i_vc_closest {k : Nat} {u : SX} {v : SY} (I : i_Rel k u v) (hk : k + 5 ≤ 2560) (v1 : Int32) (v2 : Int32) : wpX_closest (fun r => wpY_closest (fun r' => r' = r ∧ i_Rel (k + 5) u v) v v1 v2) u v1 v2 := by
  refine tw_el (P := fun u v => wpX_closest (fun r => wpY_closest (fun r' => r' = r ∧ i_Rel (k + 5) u v) v v1 v2) u v1 v2) ?_ I
  intro N S E fr fo fh fb xs xe xz ho li fi mi hs sk ru rv ou ov sp ys ye yz mk ok R B Q
  unfold wpX_closest wpX_nearRefusal
  dsimp only
  rcases tw_trk v1 with ⟨t, ht, rfl⟩ | hb1
  · refine tw_xT ht (br_f tw_10 ?_)
    by_cases q2 : tw_str v2
    · obtain ⟨a, b, hab, hb, rfl⟩ := q2
      have rz := R.1 t ht
      have hn := (ok t ht).1
      refine tw_xsT hab hb (br_f tw_10 ⟨tw_in3 ht, ?_⟩)
      simp only [tw_cl ht, rz, tw_q65 hab hb, tw_r65, forall_eq]
      by_cases y : N t = 0
      · refine br_t (by rw [y]; rfl) (br_f tw_no3 ?_)
        exact yw_closest ok Q ht hab hb (fun _ => ⟨rfl, tw_rel ok R B Q⟩) (fun q z => absurd z.1 (by omega))
      · refine br_f (nI_ne0 (by omega) (by omega)) (br_t (by decide) ⟨tw_no65, tw_no65, ?_⟩)
        obtain ⟨q, hq⟩ := tk_fm1_ex (tk_gp (S t) (E t) a b) (N t) (by omega)
        have hq1 := hq.1
        have b0 := (ok t ht).2.1 q hq1
        have g1 : tk_gp (S t) (E t) a b q ≤ 63 := tk_gp_le (by omega) (by omega)
        refine xw_nearest ok R ht hab hb ?_
        rw [tk_fm1_mn hq (by omega)]
        refine ⟨q + 1, xw_clo ok R ht hab hb hq ?_ q 0 (by omega) (q + 1) (by omega)⟩
        exact yw_closest ok Q ht hab hb (fun z => absurd z y) (fun q' z => ⟨by rw [tk_fm1_u hq z], tw_rel ok R B Q⟩)
    · unfold wpY_closest
      exact tw_xsF q2 (br_t rfl (br_f tw_no2 (tw_yT ht (br_t rfl (tw_ysF q2 (br_f tw_10 ⟨by trivial, tw_rel ok R B Q⟩))))))
  · unfold wpY_closest
    exact tw_xF hb1 (br_t rfl (br_f tw_no1 (tw_yF hb1 (br_f tw_10 ⟨by trivial, tw_rel ok R B Q⟩))))
theorem i_vc_distance {k : Nat} {u : SX} {v : SY} (I : i_Rel k u v) (hk : k + 5 ≤ 2560) (v1 : Int32) (v2 : Int32) : wpX_distance (fun r => wpY_distance (fun r' => r' = r ∧ i_Rel (k + 5) u v) v v1 v2) u v1 v2 := by
  refine tw_el (P := fun u v => wpX_distance (fun r => wpY_distance (fun r' => r' = r ∧ i_Rel (k + 5) u v) v v1 v2) u v1 v2) ?_ I
  intro N S E fr fo fh fb xs xe xz ho li fi mi hs sk ru rv ou ov sp ys ye yz mk ok R B Q
  unfold wpX_distance wpX_nearRefusal wpY_distance
  dsimp only
  rcases tw_trk v1 with ⟨t, ht, rfl⟩ | hb1
  · refine tw_xT ht (br_f tw_10 ?_)
    by_cases q2 : tw_str v2
    · obtain ⟨a, b, hab, hb, rfl⟩ := q2
      have rz := R.1 t ht
      have hn := (ok t ht).1
      refine tw_xsT hab hb (br_f tw_10 ⟨tw_in3 ht, ?_⟩)
      simp only [tw_cl ht, rz, tw_q65 hab hb, tw_r65]
      by_cases y : N t = 0
      · refine br_t (by rw [y]; rfl) (br_f tw_no3 ?_)
        exact yw_closest ok Q ht hab hb (fun _ => br_f tw_no3 ⟨by trivial, tw_rel ok R B Q⟩) (fun q z => absurd z.1 (by omega))
      · refine br_f (nI_ne0 (by omega) (by omega)) (br_t (by decide) ⟨tw_no65, tw_no65, ?_⟩)
        refine xw_nearest ok R ht hab hb ?_
        refine yw_closest ok Q ht hab hb (fun z => absurd z y) (fun q hq => ?_)
        have hq1 := hq.1
        have b0 := (ok t ht).2.1 q hq1
        have g1 : tk_gp (S t) (E t) a b q ≤ 63 := tk_gp_le (by omega) (by omega)
        refine br_t (nI_pos' (by omega)) ⟨tw_no65, tw_no65, ?_⟩
        refine yw_apart ok Q ht hq1 hab hb ⟨?_, tw_rel ok R B Q⟩
        rw [tk_fm1_mn hq (by omega)]
    · unfold wpY_closest
      exact tw_xsF q2 (br_t rfl (br_f tw_no2 (tw_yT ht (br_t rfl (tw_ysF q2 (br_f tw_10 (br_f tw_no2 ⟨by trivial, tw_rel ok R B Q⟩)))))))
  · unfold wpY_closest
    exact tw_xF hb1 (br_t rfl (br_f tw_no1 (tw_yF hb1 (br_f tw_10 (br_f tw_no1 ⟨by trivial, tw_rel ok R B Q⟩)))))
theorem i_vc_shared {k : Nat} {u : SX} {v : SY} (I : i_Rel k u v) (hk : k + 5 ≤ 2560) (v1 : Int32) (v2 : Int32) : wpX_shared (fun r u' => wpY_shared (fun r' => r' = r ∧ i_Rel (k + 5) u' v) v v1 v2) u v1 v2 := by
  refine tw_el (P := fun u v => wpX_shared (fun r u' => wpY_shared (fun r' => r' = r ∧ i_Rel (k + 5) u' v) v v1 v2) u v1 v2) ?_ I
  intro N S E fr fo fh fb xs xe xz ho li fi mi hs sk ru rv ou ov sp ys ye yz mk ok R B Q
  unfold wpX_shared
  dsimp only
  rcases tw_trk v1 with ⟨t, ht, rfl⟩ | hb1
  · refine tw_xT ht (br_f tw_10 ?_)
    rcases tw_trk v2 with ⟨w, hw, rfl⟩ | hb2
    · refine tw_xT hw (br_f tw_10 ?_)
      refine xw_take ok R hw (fun r rs re ru rv nf h1 h2 => ?_)
      dsimp only
      have ln := tk_nf_len nf
      refine xw_keep (by omega) (fun ou' ov' h3 h4 => ?_)
      dsimp only
      refine xw_take ok R ht (fun r2 rs2 re2 ru2 rv2 nf2 h5 h6 => ?_)
      dsimp only
      refine xw_walk (k := 0) (by omega) nf2 nf h5 h6 (fun j hj => (h3 j hj).trans (h1 j hj)) (fun j hj => (h4 j hj).trans (h2 j hj)) (fun r3 rs3 re3 ru3 rv3 sp3 nf3 h7 h8 => ?_)
      dsimp only
      have ln3 := tk_nf_len nf3
      refine ⟨r3 + 1, xw_sha (by omega) (fun j hj => (nf3.1 j hj).1) h7 h8 ?_ r3 0 (by omega) (r3 + 1) (by omega)⟩
      have e1 : tk_sm (fun j => re3 j - rs3 j) r3 = tk_cb (tk_W 0 (tk_cv (N t) (S t) (E t)) (tk_cv (N w) (S w) (E w))) 64 := by
        rw [tk_nf_sum nf3]
        exact tk_cb_f (by rw [tk_W_hi (Nat.le_refl 64)]; exact fun z => Bool.noConfusion z)
      rw [e1]
      unfold wpY_shared
      exact tw_yT ht (br_t rfl (tw_yT hw (br_t rfl ⟨65, yw_sha ok Q ht hw ⟨rfl, tw_rel ok R B Q⟩ 64 0 (by omega) 65 (by omega)⟩)))
    · unfold wpY_shared
      exact tw_xF hb2 (br_t rfl (tw_yT ht (br_t rfl (tw_yF hb2 (br_f tw_10 ⟨by trivial, tw_rel ok R B Q⟩)))))
  · unfold wpY_shared
    exact tw_xF hb1 (br_t rfl (tw_yF hb1 (br_f tw_10 ⟨by trivial, tw_rel ok R B Q⟩)))
theorem i_vc_meetings {k : Nat} {u : SX} {v : SY} (I : i_Rel k u v) (hk : k + 5 ≤ 2560) (v1 : Int32) (v2 : Int32) : wpX_meetings (fun r u' => wpY_meetings (fun r' => r' = r ∧ i_Rel (k + 5) u' v) v v1 v2) u v1 v2 := by
  refine tw_el (P := fun u v => wpX_meetings (fun r u' => wpY_meetings (fun r' => r' = r ∧ i_Rel (k + 5) u' v) v v1 v2) u v1 v2) ?_ I
  intro N S E fr fo fh fb xs xe xz ho li fi mi hs sk ru rv ou ov sp ys ye yz mk ok R B Q
  unfold wpX_meetings
  dsimp only
  rcases tw_trk v1 with ⟨t, ht, rfl⟩ | hb1
  · refine tw_xT ht (br_f tw_10 ?_)
    rcases tw_trk v2 with ⟨w, hw, rfl⟩ | hb2
    · refine tw_xT hw (br_f tw_10 ⟨N t + 1, ?_⟩)
      refine xw_mee ok R ht hw (fun fh fb ho li fi mi hs sk B' => ?_) (N t) 0 (by omega) fh fb ho li fi mi hs sk B (N t + 1) (by omega)
      unfold wpY_meetings
      exact tw_yT ht (br_t rfl (tw_yT hw (br_t rfl ⟨N t + 1, yw_mee ok Q ht hw ⟨rfl, tw_rel ok R B' Q⟩ (N t) 0 (by omega) (N t + 1) (by omega)⟩)))
    · unfold wpY_meetings
      exact tw_xF hb2 (br_t rfl (tw_yT ht (br_t rfl (tw_yF hb2 (br_f tw_10 ⟨by trivial, tw_rel ok R B Q⟩)))))
  · unfold wpY_meetings
    exact tw_xF hb1 (br_t rfl (tw_yF hb1 (br_f tw_10 ⟨by trivial, tw_rel ok R B Q⟩)))
end
