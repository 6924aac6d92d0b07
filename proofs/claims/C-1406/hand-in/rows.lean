section
/-! pure rows to paste: stores, nI and lN arithmetic, masks, shifts, narrowing, branches by naturals (pk_le, pk_lt, pk_eq), loops (lp1 .. lp16: the measure of the state; rp1 ..: recursion), negatives. Take what you need -/
theorem pk_us {f : Nat → Int32} {k : Nat} {x : Int32} : upd f k x k = x := if_pos rfl
theorem pk_un {f : Nat → Int32} {k j : Nat} {x : Int32} (h : j ≠ k) : upd f k x j = f j := if_neg h
theorem pk_uLs {f : Nat → Int64} {k : Nat} {x : Int64} : vp_updL f k x k = x := if_pos rfl
theorem pk_uLn {f : Nat → Int64} {k j : Nat} {x : Int64} (h : j ≠ k) : vp_updL f k x j = f j := if_neg h
theorem pk_sub {a b : Nat} (h : b ≤ a) : nI a - nI b = nI (a - b) := by
  obtain ⟨c, rfl⟩ : ∃ c, a = c + b := ⟨a - b, by omega⟩
  rw [← nI_add, Int32.add_sub_cancel, Nat.add_sub_cancel]
theorem pk_m1 (n : Nat) : nI (n + 1) + (-1) = nI n := by
  rw [← nI_1, Int32.add_assoc, show (1 : Int32) + (-1) = 0 from rfl, Int32.add_zero]
theorem pk_mul (a b : Nat) : nI a * nI b = nI (a * b) := (Int32.ofNat_mul a b).symm
theorem pk_div {a d : Nat} (ha : a < 2 ^ 31) (h0 : 0 < d) (hd : d < 2 ^ 31) : nI a / nI d = nI (a / d) := by
  apply Int32.toInt_inj.mp
  rw [lg_idiv_nonneg (by rw [nI_toInt ha]; omega) (by rw [nI_toInt hd]; omega), nI_toInt ha, nI_toInt hd, nI_toInt (Nat.lt_of_le_of_lt (Nat.div_le_self a d) ha)]
  first | rfl | exact (Int.natCast_ediv _ _).symm
theorem pk_rem {a d : Nat} (ha : a < 2 ^ 31) (h0 : 0 < d) (hd : d < 2 ^ 31) : nI a - nI a / nI d * nI d = nI (a % d) := by
  rw [pk_div ha h0 hd, pk_mul, pk_sub (Nat.div_mul_le_self a d)]
  exact congrArg nI (by have := Nat.div_add_mod' a d; omega)
theorem pk_sub_toInt {a b : Nat} (ha : a < 2 ^ 30) (hb : b < 2 ^ 30) : (nI a - nI b).toInt = (a : Int) - b := by
  rw [Int32.toInt_sub, nI_toInt (by omega), nI_toInt (by omega)]
  exact Int.bmod_eq_of_le (by omega) (by omega)
theorem pk_sneg {a b : Nat} (hb : b < 2 ^ 30) (h : a < b) : nI a - nI b < 0 := by
  rw [Int32.lt_iff_toInt_lt, pk_sub_toInt (by omega) hb, show (0 : Int32).toInt = 0 from by decide]
  omega
theorem pk_ix (x : Int32) {n : Nat} (hn : n < 2 ^ 31) : x < 0 ∨ nI n ≤ x ∨ ∃ j : Nat, j < n ∧ x = nI j := by
  by_cases h : x < 0
  · exact Or.inl h
  · obtain ⟨j, hj, rfl⟩ := nI_of h
    by_cases h2 : j < n
    · exact Or.inr (Or.inr ⟨j, h2, rfl⟩)
    · exact Or.inr (Or.inl (nI_le (by omega) hj))
theorem pk_le {x y : Int32} {A B : Prop} (a b : Nat) (f : a ≤ b → A) (g : b < a → B) (hx : x = nI a := by rfl) (hy : y = nI b := by rfl) (ha : a < 2 ^ 31 := by omega) (hb : b < 2 ^ 31 := by omega) : (x ≤ y → A) ∧ (¬ x ≤ y → B) := by
  subst hx hy
  rw [nI_leI ha hb]
  exact ⟨f, fun z => g (by omega)⟩
theorem pk_lt {x y : Int32} {A B : Prop} (a b : Nat) (f : a < b → A) (g : b ≤ a → B) (hx : x = nI a := by rfl) (hy : y = nI b := by rfl) (ha : a < 2 ^ 31 := by omega) (hb : b < 2 ^ 31 := by omega) : (x < y → A) ∧ (¬ x < y → B) := by
  subst hx hy
  rw [nI_ltI ha hb]
  exact ⟨f, fun z => g (by omega)⟩
theorem pk_eq {x y : Int32} {A B : Prop} (a b : Nat) (f : a = b → A) (g : a ≠ b → B) (hx : x = nI a := by rfl) (hy : y = nI b := by rfl) (ha : a < 2 ^ 31 := by omega) (hb : b < 2 ^ 31 := by omega) : (x = y → A) ∧ (¬ x = y → B) := by
  subst hx hy
  rw [nI_eq ha hb]
  exact ⟨f, g⟩
theorem pk_in {x : Int32} (n N : Nat) (h : n < N) (hx : x = nI n := by rfl) (hN : N < 2 ^ 31 := by omega) : vp_in x N := by
  subst hx
  exact vp_in_nI h hN
theorem pk_cl {x : Int32} (n : Nat) (hx : x = nI n := by rfl) (h : n < 2 ^ 31 := by omega) : x.toNatClampNeg = n := by
  subst hx
  exact nI_clamp h
theorem pk_tn {n : Nat} (h : n < 2 ^ 32) : (nI n).toBitVec.toNat = n := Nat.mod_eq_of_lt h
theorem pk_and (x : Int32) {m : Int32} (k : Nat) (hm : m.toBitVec.toNat = 2 ^ k - 1) : x &&& m = nI (x.toBitVec.toNat % 2 ^ k) := by
  apply Int32.toBitVec_inj.mp
  apply BitVec.eq_of_toNat_eq
  rw [Int32.toBitVec_and, BitVec.toNat_and, hm, Nat.and_two_pow_sub_one_eq_mod]
  show _ = (BitVec.ofNat 32 _).toNat
  rw [BitVec.toNat_ofNat]
  exact (Nat.mod_eq_of_lt (Nat.lt_of_le_of_lt (Nat.mod_le _ _) x.toBitVec.isLt)).symm
theorem pk_andN {n : Nat} (h : n < 2 ^ 32) {m : Int32} (k : Nat) (hm : m.toBitVec.toNat = 2 ^ k - 1) : nI n &&& m = nI (n % 2 ^ k) := by
  rw [pk_and _ k hm, pk_tn h]
theorem pk_andE (x : Int32) {m : Int32} (k : Nat) (hm : m.toBitVec.toNat = 2 ^ k - 1) : ∃ j : Nat, j < 2 ^ k ∧ x &&& m = nI j := ⟨_, Nat.mod_lt _ (Nat.two_pow_pos k), pk_and x k hm⟩
theorem pk_andIn (x : Int32) {m : Int32} (k : Nat) (hm : m.toBitVec.toNat = 2 ^ k - 1) (hk : k ≤ 30) : vp_in (x &&& m) (2 ^ k) := by
  obtain ⟨j, hj, e⟩ := pk_andE x k hm
  rw [e]
  exact vp_in_nI hj (Nat.lt_of_le_of_lt (Nat.pow_le_pow_right (by decide) hk) (by decide))
theorem pk_shl (a s : Int32) (k : Nat) (hs : (s.toBitVec.smod 32).toNat = k) : (a <<< s).toBitVec.toNat = a.toBitVec.toNat * 2 ^ k % 2 ^ 32 := by
  show (a.toBitVec <<< (s.toBitVec.smod 32).toNat).toNat = _
  rw [hs, BitVec.toNat_shiftLeft, Nat.shiftLeft_eq]
theorem pk_shlN {n : Nat} (s : Int32) (k : Nat) (hs : (s.toBitVec.smod 32).toNat = k) (h : n * 2 ^ k < 2 ^ 32) : nI n <<< s = nI (n * 2 ^ k) := by
  apply Int32.toBitVec_inj.mp
  apply BitVec.eq_of_toNat_eq
  have hn : n < 2 ^ 32 := Nat.lt_of_le_of_lt (Nat.le_mul_of_pos_right n (Nat.two_pow_pos k)) h
  rw [pk_shl _ _ k hs, pk_tn hn, pk_tn h, Nat.mod_eq_of_lt h]
theorem pk_shr (a s : Int32) (k : Nat) (hs : (s.toBitVec.smod 32).toNat = k) : (a >>> s).toInt = a.toInt >>> k := by
  show (a.toBitVec.sshiftRight (s.toBitVec.smod 32).toNat).toInt = _
  rw [hs, BitVec.toInt_sshiftRight]
  rfl
theorem pk_shrN {n : Nat} (h : n < 2 ^ 31) (s : Int32) (k : Nat) (hs : (s.toBitVec.smod 32).toNat = k) : nI n >>> s = nI (n / 2 ^ k) := by
  apply Int32.toInt_inj.mp
  have h2 : n / 2 ^ k ≤ n := Nat.div_le_self _ _
  rw [pk_shr _ _ k hs, nI_toInt h, nI_toInt (by omega), Int.shiftRight_eq_div_pow]
  rfl
theorem pk_ushr (x s : Int32) (k : Nat) (hs : ((s.toUInt32 &&& Int32.toUInt32 31).toBitVec % 32).toNat = k) : (x.toUInt32 >>> (s.toUInt32 &&& Int32.toUInt32 31)).toInt32.toBitVec.toNat = x.toBitVec.toNat / 2 ^ k := by
  have e : (x.toUInt32 >>> (s.toUInt32 &&& Int32.toUInt32 31)).toInt32.toBitVec = x.toBitVec >>> k := by
    rw [← hs]
    exact UInt32.toBitVec_shiftRight _ _
  rw [e, BitVec.toNat_ushiftRight, Nat.shiftRight_eq_div_pow]
theorem pk_ushrN {n : Nat} (hn : n < 2 ^ 32) (s : Int32) (k : Nat) (hs : ((s.toUInt32 &&& Int32.toUInt32 31).toBitVec % 32).toNat = k) : ((nI n).toUInt32 >>> (s.toUInt32 &&& Int32.toUInt32 31)).toInt32 = nI (n / 2 ^ k) := by
  apply Int32.toBitVec_inj.mp
  apply BitVec.eq_of_toNat_eq
  rw [pk_ushr _ s k hs, pk_tn hn, pk_tn (Nat.lt_of_le_of_lt (Nat.div_le_self _ _) hn)]
theorem pk_nb (z : Int32) : narrow .byte (.int z.toInt8.toInt32) = .int z.toInt8.toInt32 := congrArg Value.int (by simp)
theorem pk_ns (z : Int32) : narrow .short (.int z.toInt16.toInt32) = .int z.toInt16.toInt32 := congrArg Value.int (by simp)
theorem pk_fb (r : Int32) : fits .byte (.int r.toInt8.toInt32) = true := by
  have ⟨a, b⟩ := lg_i2b_range r
  have h1 : (-128 : Int32).toInt = -128 := by decide
  have h2 : (127 : Int32).toInt = 127 := by decide
  simp only [fits, Bool.and_eq_true, decide_eq_true_eq, Int32.le_iff_toInt_le, h1, h2]
  omega
theorem pk_fs (r : Int32) : fits .short (.int r.toInt16.toInt32) = true := by
  have ⟨a, b⟩ := lg_i2s_range r
  have h1 : (-32768 : Int32).toInt = -32768 := by decide
  have h2 : (32767 : Int32).toInt = 32767 := by decide
  simp only [fits, Bool.and_eq_true, decide_eq_true_eq, Int32.le_iff_toInt_le, h1, h2]
  omega
theorem pk_charN {q : Nat} (hq : q < 65536) : narrow .char (.int (nI q)) = .int (nI q) ∧ fits .char (.int (nI q)) = true := by
  constructor
  · have e : (nI q).toUInt32.toUInt16.toUInt32.toInt32 = nI q := by
      apply Int32.toBitVec_inj.mp
      apply BitVec.eq_of_toNat_eq
      show (nI q).toUInt32.toUInt16.toUInt32.toNat = q % 2 ^ 32
      rw [UInt16.toNat_toUInt32, UInt32.toNat_toUInt16, show (nI q).toUInt32.toNat = q % 2 ^ 32 from rfl]
      omega
    exact congrArg Value.int e
  · have a : (0 : Int32) ≤ nI q := nI_pos' (by omega)
    have b : nI q ≤ 65535 := nI_le (b := 65535) (by omega) (by decide)
    show (decide ((0 : Int32) ≤ nI q) && decide (nI q ≤ 65535)) = true
    rw [decide_eq_true a, decide_eq_true b]
    rfl
theorem pk_char (x : Int32) : (x.toUInt32 % 65536).toInt32 = nI (x.toBitVec.toNat % 65536) := by
  apply Int32.toBitVec_inj.mp
  apply BitVec.eq_of_toNat_eq
  rw [pk_tn (by omega)]
  show (x.toUInt32 % 65536).toNat = _
  rw [UInt32.toNat_mod]
  rfl
theorem pk_nc (x : Int32) : narrow .char (.int (x.toUInt32 % 65536).toInt32) = .int (x.toUInt32 % 65536).toInt32 := by
  rw [pk_char]
  exact (pk_charN (Nat.mod_lt _ (by decide))).1
theorem pk_fc (x : Int32) : fits .char (.int (x.toUInt32 % 65536).toInt32) = true := by
  rw [pk_char]
  exact (pk_charN (Nat.mod_lt _ (by decide))).2
theorem pk_vb (z : Int32) : vp_nar .byte z.toInt8.toInt32 = z.toInt8.toInt32 := by rw [vp_nar_byte]; simp
theorem pk_vs (z : Int32) : vp_nar .short z.toInt16.toInt32 = z.toInt16.toInt32 := by rw [vp_nar_short]; simp
theorem pk_vc (z : Int32) : vp_nar .char (z.toUInt32 % 65536).toInt32 = (z.toUInt32 % 65536).toInt32 := Value.int.inj (pk_nc z)
theorem pk_lT {n : Nat} (h : n < 2 ^ 63) : (lN n).toInt = (n : Int) := lg_ofNat_toInt h
theorem pk_lLT {a b : Nat} (ha : a < 2 ^ 63) (hb : b < 2 ^ 63) : lN a < lN b ↔ a < b := by
  rw [Int64.lt_iff_toInt_lt, pk_lT ha, pk_lT hb]; omega
theorem pk_lLE {a b : Nat} (ha : a < 2 ^ 63) (hb : b < 2 ^ 63) : lN a ≤ lN b ↔ a ≤ b := by
  rw [Int64.le_iff_toInt_le, pk_lT ha, pk_lT hb]; omega
theorem pk_lEQ {a b : Nat} (ha : a < 2 ^ 63) (hb : b < 2 ^ 63) : lN a = lN b ↔ a = b := by
  rw [← Int64.toInt_inj, pk_lT ha, pk_lT hb]; omega
theorem pk_lOf {x : Int64} (h : ¬ x < 0) : ∃ k : Nat, k < 2 ^ 63 ∧ x = lN k := by
  rw [Int64.lt_iff_toInt_lt] at h
  have h0 : (0 : Int64).toInt = 0 := by decide
  have hx := Int64.toInt_lt x
  refine ⟨x.toInt.toNat, by omega, Int64.toInt_inj.mp ?_⟩
  rw [pk_lT (by omega)]
  omega
theorem pk_lDiv {a b : Nat} (ha : a < 2 ^ 63) (h0 : 0 < b) (hb : b < 2 ^ 63) : lN a / lN b = lN (a / b) := by
  apply Int64.toInt_inj.mp
  rw [lg_ldiv_nonneg (by rw [pk_lT ha]; omega) (by rw [pk_lT hb]; omega), pk_lT ha, pk_lT hb, pk_lT (Nat.lt_of_le_of_lt (Nat.div_le_self a b) ha)]
  rfl
theorem pk_lRem {a b : Nat} (ha : a < 2 ^ 63) (h0 : 0 < b) (hb : b < 2 ^ 63) : lN a - lN a / lN b * lN b = lN (a % b) := by
  rw [pk_lDiv ha h0 hb, lN_mul, lN_sub (Nat.div_mul_le_self a b)]
  exact congrArg lN (by have := Nat.div_add_mod' a b; omega)
theorem pk_loop {σ : Type} (W : Nat → Nat → σ → Prop) (I : Nat → σ → Prop) (e i0 : Nat) (s : σ) (hi : i0 ≤ e) (h0 : I i0 s) (hx : ∀ n s, I e s → W (n + 1) e s)
    (hs : ∀ n i s, i < e → I i s → (∀ s', I (i + 1) s' → W n (i + 1) s') → W (n + 1) i s) : ∃ n, W n i0 s :=
  ⟨e + 1, loop_i W I e hx hs (e + 1) i0 s hi (by omega) h0⟩
theorem pk_loopD {σ : Type} (W : Nat → Nat → σ → Prop) (I : Nat → σ → Prop) (hx : ∀ n s, I 0 s → W (n + 1) 0 s)
    (hs : ∀ n i s, I (i + 1) s → (∀ s', I i s' → W n i s') → W (n + 1) (i + 1) s) : ∀ (e : Nat) (s : σ), I e s → W (e + 1) e s := by
  intro e
  induction e with
  | zero => exact fun s h => hx 0 s h
  | succ e ih => exact fun s h => hs (e + 1) e s h (fun s' h' => ih s' h')
theorem lp1 {A1 : Type} (W : Nat → A1 → Prop) (I : A1 → Prop) (μ : A1 → Nat) (hs : ∀ (n : Nat) (a1 : A1), I a1 → (∀ (b1 : A1), I b1 → μ b1 < μ a1 → W n b1) → W (n + 1) a1) (a1 : A1) (h : I a1) : ∃ n, W n a1 :=
  loop_m (σ := A1) (fun n s => W n s) (fun s => I s) (fun s => μ s) (fun n s hI hk => hs n s hI (fun b1 h9 hm => hk b1 h9 hm)) a1 h
theorem lp2 {A1 A2 : Type} (W : Nat → A1 → A2 → Prop) (I : A1 → A2 → Prop) (μ : A1 → A2 → Nat) (hs : ∀ (n : Nat) (a1 : A1) (a2 : A2), I a1 a2 → (∀ (b1 : A1) (b2 : A2), I b1 b2 → μ b1 b2 < μ a1 a2 → W n b1 b2) → W (n + 1) a1 a2) (a1 : A1) (a2 : A2) (h : I a1 a2) : ∃ n, W n a1 a2 :=
  loop_m (σ := A1 × A2) (fun n s => W n s.1 s.2) (fun s => I s.1 s.2) (fun s => μ s.1 s.2) (fun n s hI hk => hs n s.1 s.2 hI (fun b1 b2 h9 hm => hk (b1, b2) h9 hm)) (a1, a2) h
theorem lp3 {A1 A2 A3 : Type} (W : Nat → A1 → A2 → A3 → Prop) (I : A1 → A2 → A3 → Prop) (μ : A1 → A2 → A3 → Nat) (hs : ∀ (n : Nat) (a1 : A1) (a2 : A2) (a3 : A3), I a1 a2 a3 → (∀ (b1 : A1) (b2 : A2) (b3 : A3), I b1 b2 b3 → μ b1 b2 b3 < μ a1 a2 a3 → W n b1 b2 b3) → W (n + 1) a1 a2 a3) (a1 : A1) (a2 : A2) (a3 : A3) (h : I a1 a2 a3) : ∃ n, W n a1 a2 a3 :=
  loop_m (σ := A1 × A2 × A3) (fun n s => W n s.1 s.2.1 s.2.2) (fun s => I s.1 s.2.1 s.2.2) (fun s => μ s.1 s.2.1 s.2.2) (fun n s hI hk => hs n s.1 s.2.1 s.2.2 hI (fun b1 b2 b3 h9 hm => hk (b1, b2, b3) h9 hm)) (a1, a2, a3) h
theorem lp4 {A1 A2 A3 A4 : Type} (W : Nat → A1 → A2 → A3 → A4 → Prop) (I : A1 → A2 → A3 → A4 → Prop) (μ : A1 → A2 → A3 → A4 → Nat) (hs : ∀ (n : Nat) (a1 : A1) (a2 : A2) (a3 : A3) (a4 : A4), I a1 a2 a3 a4 → (∀ (b1 : A1) (b2 : A2) (b3 : A3) (b4 : A4), I b1 b2 b3 b4 → μ b1 b2 b3 b4 < μ a1 a2 a3 a4 → W n b1 b2 b3 b4) → W (n + 1) a1 a2 a3 a4) (a1 : A1) (a2 : A2) (a3 : A3) (a4 : A4) (h : I a1 a2 a3 a4) : ∃ n, W n a1 a2 a3 a4 :=
  loop_m (σ := A1 × A2 × A3 × A4) (fun n s => W n s.1 s.2.1 s.2.2.1 s.2.2.2) (fun s => I s.1 s.2.1 s.2.2.1 s.2.2.2) (fun s => μ s.1 s.2.1 s.2.2.1 s.2.2.2) (fun n s hI hk => hs n s.1 s.2.1 s.2.2.1 s.2.2.2 hI (fun b1 b2 b3 b4 h9 hm => hk (b1, b2, b3, b4) h9 hm)) (a1, a2, a3, a4) h
theorem lp5 {A1 A2 A3 A4 A5 : Type} (W : Nat → A1 → A2 → A3 → A4 → A5 → Prop) (I : A1 → A2 → A3 → A4 → A5 → Prop) (μ : A1 → A2 → A3 → A4 → A5 → Nat) (hs : ∀ (n : Nat) (a1 : A1) (a2 : A2) (a3 : A3) (a4 : A4) (a5 : A5), I a1 a2 a3 a4 a5 → (∀ (b1 : A1) (b2 : A2) (b3 : A3) (b4 : A4) (b5 : A5), I b1 b2 b3 b4 b5 → μ b1 b2 b3 b4 b5 < μ a1 a2 a3 a4 a5 → W n b1 b2 b3 b4 b5) → W (n + 1) a1 a2 a3 a4 a5) (a1 : A1) (a2 : A2) (a3 : A3) (a4 : A4) (a5 : A5) (h : I a1 a2 a3 a4 a5) : ∃ n, W n a1 a2 a3 a4 a5 :=
  loop_m (σ := A1 × A2 × A3 × A4 × A5) (fun n s => W n s.1 s.2.1 s.2.2.1 s.2.2.2.1 s.2.2.2.2) (fun s => I s.1 s.2.1 s.2.2.1 s.2.2.2.1 s.2.2.2.2) (fun s => μ s.1 s.2.1 s.2.2.1 s.2.2.2.1 s.2.2.2.2) (fun n s hI hk => hs n s.1 s.2.1 s.2.2.1 s.2.2.2.1 s.2.2.2.2 hI (fun b1 b2 b3 b4 b5 h9 hm => hk (b1, b2, b3, b4, b5) h9 hm)) (a1, a2, a3, a4, a5) h
theorem lp6 {A1 A2 A3 A4 A5 A6 : Type} (W : Nat → A1 → A2 → A3 → A4 → A5 → A6 → Prop) (I : A1 → A2 → A3 → A4 → A5 → A6 → Prop) (μ : A1 → A2 → A3 → A4 → A5 → A6 → Nat) (hs : ∀ (n : Nat) (a1 : A1) (a2 : A2) (a3 : A3) (a4 : A4) (a5 : A5) (a6 : A6), I a1 a2 a3 a4 a5 a6 → (∀ (b1 : A1) (b2 : A2) (b3 : A3) (b4 : A4) (b5 : A5) (b6 : A6), I b1 b2 b3 b4 b5 b6 → μ b1 b2 b3 b4 b5 b6 < μ a1 a2 a3 a4 a5 a6 → W n b1 b2 b3 b4 b5 b6) → W (n + 1) a1 a2 a3 a4 a5 a6) (a1 : A1) (a2 : A2) (a3 : A3) (a4 : A4) (a5 : A5) (a6 : A6) (h : I a1 a2 a3 a4 a5 a6) : ∃ n, W n a1 a2 a3 a4 a5 a6 :=
  loop_m (σ := A1 × A2 × A3 × A4 × A5 × A6) (fun n s => W n s.1 s.2.1 s.2.2.1 s.2.2.2.1 s.2.2.2.2.1 s.2.2.2.2.2) (fun s => I s.1 s.2.1 s.2.2.1 s.2.2.2.1 s.2.2.2.2.1 s.2.2.2.2.2) (fun s => μ s.1 s.2.1 s.2.2.1 s.2.2.2.1 s.2.2.2.2.1 s.2.2.2.2.2) (fun n s hI hk => hs n s.1 s.2.1 s.2.2.1 s.2.2.2.1 s.2.2.2.2.1 s.2.2.2.2.2 hI (fun b1 b2 b3 b4 b5 b6 h9 hm => hk (b1, b2, b3, b4, b5, b6) h9 hm)) (a1, a2, a3, a4, a5, a6) h
theorem lp7 {A1 A2 A3 A4 A5 A6 A7 : Type} (W : Nat → A1 → A2 → A3 → A4 → A5 → A6 → A7 → Prop) (I : A1 → A2 → A3 → A4 → A5 → A6 → A7 → Prop) (μ : A1 → A2 → A3 → A4 → A5 → A6 → A7 → Nat) (hs : ∀ (n : Nat) (a1 : A1) (a2 : A2) (a3 : A3) (a4 : A4) (a5 : A5) (a6 : A6) (a7 : A7), I a1 a2 a3 a4 a5 a6 a7 → (∀ (b1 : A1) (b2 : A2) (b3 : A3) (b4 : A4) (b5 : A5) (b6 : A6) (b7 : A7), I b1 b2 b3 b4 b5 b6 b7 → μ b1 b2 b3 b4 b5 b6 b7 < μ a1 a2 a3 a4 a5 a6 a7 → W n b1 b2 b3 b4 b5 b6 b7) → W (n + 1) a1 a2 a3 a4 a5 a6 a7) (a1 : A1) (a2 : A2) (a3 : A3) (a4 : A4) (a5 : A5) (a6 : A6) (a7 : A7) (h : I a1 a2 a3 a4 a5 a6 a7) : ∃ n, W n a1 a2 a3 a4 a5 a6 a7 :=
  loop_m (σ := A1 × A2 × A3 × A4 × A5 × A6 × A7) (fun n s => W n s.1 s.2.1 s.2.2.1 s.2.2.2.1 s.2.2.2.2.1 s.2.2.2.2.2.1 s.2.2.2.2.2.2) (fun s => I s.1 s.2.1 s.2.2.1 s.2.2.2.1 s.2.2.2.2.1 s.2.2.2.2.2.1 s.2.2.2.2.2.2) (fun s => μ s.1 s.2.1 s.2.2.1 s.2.2.2.1 s.2.2.2.2.1 s.2.2.2.2.2.1 s.2.2.2.2.2.2) (fun n s hI hk => hs n s.1 s.2.1 s.2.2.1 s.2.2.2.1 s.2.2.2.2.1 s.2.2.2.2.2.1 s.2.2.2.2.2.2 hI (fun b1 b2 b3 b4 b5 b6 b7 h9 hm => hk (b1, b2, b3, b4, b5, b6, b7) h9 hm)) (a1, a2, a3, a4, a5, a6, a7) h
theorem lp8 {A1 A2 A3 A4 A5 A6 A7 A8 : Type} (W : Nat → A1 → A2 → A3 → A4 → A5 → A6 → A7 → A8 → Prop) (I : A1 → A2 → A3 → A4 → A5 → A6 → A7 → A8 → Prop) (μ : A1 → A2 → A3 → A4 → A5 → A6 → A7 → A8 → Nat) (hs : ∀ (n : Nat) (a1 : A1) (a2 : A2) (a3 : A3) (a4 : A4) (a5 : A5) (a6 : A6) (a7 : A7) (a8 : A8), I a1 a2 a3 a4 a5 a6 a7 a8 → (∀ (b1 : A1) (b2 : A2) (b3 : A3) (b4 : A4) (b5 : A5) (b6 : A6) (b7 : A7) (b8 : A8), I b1 b2 b3 b4 b5 b6 b7 b8 → μ b1 b2 b3 b4 b5 b6 b7 b8 < μ a1 a2 a3 a4 a5 a6 a7 a8 → W n b1 b2 b3 b4 b5 b6 b7 b8) → W (n + 1) a1 a2 a3 a4 a5 a6 a7 a8) (a1 : A1) (a2 : A2) (a3 : A3) (a4 : A4) (a5 : A5) (a6 : A6) (a7 : A7) (a8 : A8) (h : I a1 a2 a3 a4 a5 a6 a7 a8) : ∃ n, W n a1 a2 a3 a4 a5 a6 a7 a8 :=
  loop_m (σ := A1 × A2 × A3 × A4 × A5 × A6 × A7 × A8) (fun n s => W n s.1 s.2.1 s.2.2.1 s.2.2.2.1 s.2.2.2.2.1 s.2.2.2.2.2.1 s.2.2.2.2.2.2.1 s.2.2.2.2.2.2.2) (fun s => I s.1 s.2.1 s.2.2.1 s.2.2.2.1 s.2.2.2.2.1 s.2.2.2.2.2.1 s.2.2.2.2.2.2.1 s.2.2.2.2.2.2.2) (fun s => μ s.1 s.2.1 s.2.2.1 s.2.2.2.1 s.2.2.2.2.1 s.2.2.2.2.2.1 s.2.2.2.2.2.2.1 s.2.2.2.2.2.2.2) (fun n s hI hk => hs n s.1 s.2.1 s.2.2.1 s.2.2.2.1 s.2.2.2.2.1 s.2.2.2.2.2.1 s.2.2.2.2.2.2.1 s.2.2.2.2.2.2.2 hI (fun b1 b2 b3 b4 b5 b6 b7 b8 h9 hm => hk (b1, b2, b3, b4, b5, b6, b7, b8) h9 hm)) (a1, a2, a3, a4, a5, a6, a7, a8) h
theorem lp9 {A1 A2 A3 A4 A5 A6 A7 A8 A9 : Type} (W : Nat → A1 → A2 → A3 → A4 → A5 → A6 → A7 → A8 → A9 → Prop) (I : A1 → A2 → A3 → A4 → A5 → A6 → A7 → A8 → A9 → Prop) (μ : A1 → A2 → A3 → A4 → A5 → A6 → A7 → A8 → A9 → Nat) (hs : ∀ (n : Nat) (a1 : A1) (a2 : A2) (a3 : A3) (a4 : A4) (a5 : A5) (a6 : A6) (a7 : A7) (a8 : A8) (a9 : A9), I a1 a2 a3 a4 a5 a6 a7 a8 a9 → (∀ (b1 : A1) (b2 : A2) (b3 : A3) (b4 : A4) (b5 : A5) (b6 : A6) (b7 : A7) (b8 : A8) (b9 : A9), I b1 b2 b3 b4 b5 b6 b7 b8 b9 → μ b1 b2 b3 b4 b5 b6 b7 b8 b9 < μ a1 a2 a3 a4 a5 a6 a7 a8 a9 → W n b1 b2 b3 b4 b5 b6 b7 b8 b9) → W (n + 1) a1 a2 a3 a4 a5 a6 a7 a8 a9) (a1 : A1) (a2 : A2) (a3 : A3) (a4 : A4) (a5 : A5) (a6 : A6) (a7 : A7) (a8 : A8) (a9 : A9) (h : I a1 a2 a3 a4 a5 a6 a7 a8 a9) : ∃ n, W n a1 a2 a3 a4 a5 a6 a7 a8 a9 :=
  loop_m (σ := A1 × A2 × A3 × A4 × A5 × A6 × A7 × A8 × A9) (fun n s => W n s.1 s.2.1 s.2.2.1 s.2.2.2.1 s.2.2.2.2.1 s.2.2.2.2.2.1 s.2.2.2.2.2.2.1 s.2.2.2.2.2.2.2.1 s.2.2.2.2.2.2.2.2) (fun s => I s.1 s.2.1 s.2.2.1 s.2.2.2.1 s.2.2.2.2.1 s.2.2.2.2.2.1 s.2.2.2.2.2.2.1 s.2.2.2.2.2.2.2.1 s.2.2.2.2.2.2.2.2) (fun s => μ s.1 s.2.1 s.2.2.1 s.2.2.2.1 s.2.2.2.2.1 s.2.2.2.2.2.1 s.2.2.2.2.2.2.1 s.2.2.2.2.2.2.2.1 s.2.2.2.2.2.2.2.2) (fun n s hI hk => hs n s.1 s.2.1 s.2.2.1 s.2.2.2.1 s.2.2.2.2.1 s.2.2.2.2.2.1 s.2.2.2.2.2.2.1 s.2.2.2.2.2.2.2.1 s.2.2.2.2.2.2.2.2 hI (fun b1 b2 b3 b4 b5 b6 b7 b8 b9 h9 hm => hk (b1, b2, b3, b4, b5, b6, b7, b8, b9) h9 hm)) (a1, a2, a3, a4, a5, a6, a7, a8, a9) h
theorem lp10 {A1 A2 A3 A4 A5 A6 A7 A8 A9 A10 : Type} (W : Nat → A1 → A2 → A3 → A4 → A5 → A6 → A7 → A8 → A9 → A10 → Prop) (I : A1 → A2 → A3 → A4 → A5 → A6 → A7 → A8 → A9 → A10 → Prop) (μ : A1 → A2 → A3 → A4 → A5 → A6 → A7 → A8 → A9 → A10 → Nat) (hs : ∀ (n : Nat) (a1 : A1) (a2 : A2) (a3 : A3) (a4 : A4) (a5 : A5) (a6 : A6) (a7 : A7) (a8 : A8) (a9 : A9) (a10 : A10), I a1 a2 a3 a4 a5 a6 a7 a8 a9 a10 → (∀ (b1 : A1) (b2 : A2) (b3 : A3) (b4 : A4) (b5 : A5) (b6 : A6) (b7 : A7) (b8 : A8) (b9 : A9) (b10 : A10), I b1 b2 b3 b4 b5 b6 b7 b8 b9 b10 → μ b1 b2 b3 b4 b5 b6 b7 b8 b9 b10 < μ a1 a2 a3 a4 a5 a6 a7 a8 a9 a10 → W n b1 b2 b3 b4 b5 b6 b7 b8 b9 b10) → W (n + 1) a1 a2 a3 a4 a5 a6 a7 a8 a9 a10) (a1 : A1) (a2 : A2) (a3 : A3) (a4 : A4) (a5 : A5) (a6 : A6) (a7 : A7) (a8 : A8) (a9 : A9) (a10 : A10) (h : I a1 a2 a3 a4 a5 a6 a7 a8 a9 a10) : ∃ n, W n a1 a2 a3 a4 a5 a6 a7 a8 a9 a10 :=
  loop_m (σ := A1 × A2 × A3 × A4 × A5 × A6 × A7 × A8 × A9 × A10) (fun n s => W n s.1 s.2.1 s.2.2.1 s.2.2.2.1 s.2.2.2.2.1 s.2.2.2.2.2.1 s.2.2.2.2.2.2.1 s.2.2.2.2.2.2.2.1 s.2.2.2.2.2.2.2.2.1 s.2.2.2.2.2.2.2.2.2) (fun s => I s.1 s.2.1 s.2.2.1 s.2.2.2.1 s.2.2.2.2.1 s.2.2.2.2.2.1 s.2.2.2.2.2.2.1 s.2.2.2.2.2.2.2.1 s.2.2.2.2.2.2.2.2.1 s.2.2.2.2.2.2.2.2.2) (fun s => μ s.1 s.2.1 s.2.2.1 s.2.2.2.1 s.2.2.2.2.1 s.2.2.2.2.2.1 s.2.2.2.2.2.2.1 s.2.2.2.2.2.2.2.1 s.2.2.2.2.2.2.2.2.1 s.2.2.2.2.2.2.2.2.2) (fun n s hI hk => hs n s.1 s.2.1 s.2.2.1 s.2.2.2.1 s.2.2.2.2.1 s.2.2.2.2.2.1 s.2.2.2.2.2.2.1 s.2.2.2.2.2.2.2.1 s.2.2.2.2.2.2.2.2.1 s.2.2.2.2.2.2.2.2.2 hI (fun b1 b2 b3 b4 b5 b6 b7 b8 b9 b10 h9 hm => hk (b1, b2, b3, b4, b5, b6, b7, b8, b9, b10) h9 hm)) (a1, a2, a3, a4, a5, a6, a7, a8, a9, a10) h
theorem lp11 {A1 A2 A3 A4 A5 A6 A7 A8 A9 A10 A11 : Type} (W : Nat → A1 → A2 → A3 → A4 → A5 → A6 → A7 → A8 → A9 → A10 → A11 → Prop) (I : A1 → A2 → A3 → A4 → A5 → A6 → A7 → A8 → A9 → A10 → A11 → Prop) (μ : A1 → A2 → A3 → A4 → A5 → A6 → A7 → A8 → A9 → A10 → A11 → Nat) (hs : ∀ (n : Nat) (a1 : A1) (a2 : A2) (a3 : A3) (a4 : A4) (a5 : A5) (a6 : A6) (a7 : A7) (a8 : A8) (a9 : A9) (a10 : A10) (a11 : A11), I a1 a2 a3 a4 a5 a6 a7 a8 a9 a10 a11 → (∀ (b1 : A1) (b2 : A2) (b3 : A3) (b4 : A4) (b5 : A5) (b6 : A6) (b7 : A7) (b8 : A8) (b9 : A9) (b10 : A10) (b11 : A11), I b1 b2 b3 b4 b5 b6 b7 b8 b9 b10 b11 → μ b1 b2 b3 b4 b5 b6 b7 b8 b9 b10 b11 < μ a1 a2 a3 a4 a5 a6 a7 a8 a9 a10 a11 → W n b1 b2 b3 b4 b5 b6 b7 b8 b9 b10 b11) → W (n + 1) a1 a2 a3 a4 a5 a6 a7 a8 a9 a10 a11) (a1 : A1) (a2 : A2) (a3 : A3) (a4 : A4) (a5 : A5) (a6 : A6) (a7 : A7) (a8 : A8) (a9 : A9) (a10 : A10) (a11 : A11) (h : I a1 a2 a3 a4 a5 a6 a7 a8 a9 a10 a11) : ∃ n, W n a1 a2 a3 a4 a5 a6 a7 a8 a9 a10 a11 :=
  loop_m (σ := A1 × A2 × A3 × A4 × A5 × A6 × A7 × A8 × A9 × A10 × A11) (fun n s => W n s.1 s.2.1 s.2.2.1 s.2.2.2.1 s.2.2.2.2.1 s.2.2.2.2.2.1 s.2.2.2.2.2.2.1 s.2.2.2.2.2.2.2.1 s.2.2.2.2.2.2.2.2.1 s.2.2.2.2.2.2.2.2.2.1 s.2.2.2.2.2.2.2.2.2.2) (fun s => I s.1 s.2.1 s.2.2.1 s.2.2.2.1 s.2.2.2.2.1 s.2.2.2.2.2.1 s.2.2.2.2.2.2.1 s.2.2.2.2.2.2.2.1 s.2.2.2.2.2.2.2.2.1 s.2.2.2.2.2.2.2.2.2.1 s.2.2.2.2.2.2.2.2.2.2) (fun s => μ s.1 s.2.1 s.2.2.1 s.2.2.2.1 s.2.2.2.2.1 s.2.2.2.2.2.1 s.2.2.2.2.2.2.1 s.2.2.2.2.2.2.2.1 s.2.2.2.2.2.2.2.2.1 s.2.2.2.2.2.2.2.2.2.1 s.2.2.2.2.2.2.2.2.2.2) (fun n s hI hk => hs n s.1 s.2.1 s.2.2.1 s.2.2.2.1 s.2.2.2.2.1 s.2.2.2.2.2.1 s.2.2.2.2.2.2.1 s.2.2.2.2.2.2.2.1 s.2.2.2.2.2.2.2.2.1 s.2.2.2.2.2.2.2.2.2.1 s.2.2.2.2.2.2.2.2.2.2 hI (fun b1 b2 b3 b4 b5 b6 b7 b8 b9 b10 b11 h9 hm => hk (b1, b2, b3, b4, b5, b6, b7, b8, b9, b10, b11) h9 hm)) (a1, a2, a3, a4, a5, a6, a7, a8, a9, a10, a11) h
theorem lp12 {A1 A2 A3 A4 A5 A6 A7 A8 A9 A10 A11 A12 : Type} (W : Nat → A1 → A2 → A3 → A4 → A5 → A6 → A7 → A8 → A9 → A10 → A11 → A12 → Prop) (I : A1 → A2 → A3 → A4 → A5 → A6 → A7 → A8 → A9 → A10 → A11 → A12 → Prop) (μ : A1 → A2 → A3 → A4 → A5 → A6 → A7 → A8 → A9 → A10 → A11 → A12 → Nat) (hs : ∀ (n : Nat) (a1 : A1) (a2 : A2) (a3 : A3) (a4 : A4) (a5 : A5) (a6 : A6) (a7 : A7) (a8 : A8) (a9 : A9) (a10 : A10) (a11 : A11) (a12 : A12), I a1 a2 a3 a4 a5 a6 a7 a8 a9 a10 a11 a12 → (∀ (b1 : A1) (b2 : A2) (b3 : A3) (b4 : A4) (b5 : A5) (b6 : A6) (b7 : A7) (b8 : A8) (b9 : A9) (b10 : A10) (b11 : A11) (b12 : A12), I b1 b2 b3 b4 b5 b6 b7 b8 b9 b10 b11 b12 → μ b1 b2 b3 b4 b5 b6 b7 b8 b9 b10 b11 b12 < μ a1 a2 a3 a4 a5 a6 a7 a8 a9 a10 a11 a12 → W n b1 b2 b3 b4 b5 b6 b7 b8 b9 b10 b11 b12) → W (n + 1) a1 a2 a3 a4 a5 a6 a7 a8 a9 a10 a11 a12) (a1 : A1) (a2 : A2) (a3 : A3) (a4 : A4) (a5 : A5) (a6 : A6) (a7 : A7) (a8 : A8) (a9 : A9) (a10 : A10) (a11 : A11) (a12 : A12) (h : I a1 a2 a3 a4 a5 a6 a7 a8 a9 a10 a11 a12) : ∃ n, W n a1 a2 a3 a4 a5 a6 a7 a8 a9 a10 a11 a12 :=
  loop_m (σ := A1 × A2 × A3 × A4 × A5 × A6 × A7 × A8 × A9 × A10 × A11 × A12) (fun n s => W n s.1 s.2.1 s.2.2.1 s.2.2.2.1 s.2.2.2.2.1 s.2.2.2.2.2.1 s.2.2.2.2.2.2.1 s.2.2.2.2.2.2.2.1 s.2.2.2.2.2.2.2.2.1 s.2.2.2.2.2.2.2.2.2.1 s.2.2.2.2.2.2.2.2.2.2.1 s.2.2.2.2.2.2.2.2.2.2.2) (fun s => I s.1 s.2.1 s.2.2.1 s.2.2.2.1 s.2.2.2.2.1 s.2.2.2.2.2.1 s.2.2.2.2.2.2.1 s.2.2.2.2.2.2.2.1 s.2.2.2.2.2.2.2.2.1 s.2.2.2.2.2.2.2.2.2.1 s.2.2.2.2.2.2.2.2.2.2.1 s.2.2.2.2.2.2.2.2.2.2.2) (fun s => μ s.1 s.2.1 s.2.2.1 s.2.2.2.1 s.2.2.2.2.1 s.2.2.2.2.2.1 s.2.2.2.2.2.2.1 s.2.2.2.2.2.2.2.1 s.2.2.2.2.2.2.2.2.1 s.2.2.2.2.2.2.2.2.2.1 s.2.2.2.2.2.2.2.2.2.2.1 s.2.2.2.2.2.2.2.2.2.2.2) (fun n s hI hk => hs n s.1 s.2.1 s.2.2.1 s.2.2.2.1 s.2.2.2.2.1 s.2.2.2.2.2.1 s.2.2.2.2.2.2.1 s.2.2.2.2.2.2.2.1 s.2.2.2.2.2.2.2.2.1 s.2.2.2.2.2.2.2.2.2.1 s.2.2.2.2.2.2.2.2.2.2.1 s.2.2.2.2.2.2.2.2.2.2.2 hI (fun b1 b2 b3 b4 b5 b6 b7 b8 b9 b10 b11 b12 h9 hm => hk (b1, b2, b3, b4, b5, b6, b7, b8, b9, b10, b11, b12) h9 hm)) (a1, a2, a3, a4, a5, a6, a7, a8, a9, a10, a11, a12) h
theorem lp13 {A1 A2 A3 A4 A5 A6 A7 A8 A9 A10 A11 A12 A13 : Type} (W : Nat → A1 → A2 → A3 → A4 → A5 → A6 → A7 → A8 → A9 → A10 → A11 → A12 → A13 → Prop) (I : A1 → A2 → A3 → A4 → A5 → A6 → A7 → A8 → A9 → A10 → A11 → A12 → A13 → Prop) (μ : A1 → A2 → A3 → A4 → A5 → A6 → A7 → A8 → A9 → A10 → A11 → A12 → A13 → Nat) (hs : ∀ (n : Nat) (a1 : A1) (a2 : A2) (a3 : A3) (a4 : A4) (a5 : A5) (a6 : A6) (a7 : A7) (a8 : A8) (a9 : A9) (a10 : A10) (a11 : A11) (a12 : A12) (a13 : A13), I a1 a2 a3 a4 a5 a6 a7 a8 a9 a10 a11 a12 a13 → (∀ (b1 : A1) (b2 : A2) (b3 : A3) (b4 : A4) (b5 : A5) (b6 : A6) (b7 : A7) (b8 : A8) (b9 : A9) (b10 : A10) (b11 : A11) (b12 : A12) (b13 : A13), I b1 b2 b3 b4 b5 b6 b7 b8 b9 b10 b11 b12 b13 → μ b1 b2 b3 b4 b5 b6 b7 b8 b9 b10 b11 b12 b13 < μ a1 a2 a3 a4 a5 a6 a7 a8 a9 a10 a11 a12 a13 → W n b1 b2 b3 b4 b5 b6 b7 b8 b9 b10 b11 b12 b13) → W (n + 1) a1 a2 a3 a4 a5 a6 a7 a8 a9 a10 a11 a12 a13) (a1 : A1) (a2 : A2) (a3 : A3) (a4 : A4) (a5 : A5) (a6 : A6) (a7 : A7) (a8 : A8) (a9 : A9) (a10 : A10) (a11 : A11) (a12 : A12) (a13 : A13) (h : I a1 a2 a3 a4 a5 a6 a7 a8 a9 a10 a11 a12 a13) : ∃ n, W n a1 a2 a3 a4 a5 a6 a7 a8 a9 a10 a11 a12 a13 :=
  loop_m (σ := A1 × A2 × A3 × A4 × A5 × A6 × A7 × A8 × A9 × A10 × A11 × A12 × A13) (fun n s => W n s.1 s.2.1 s.2.2.1 s.2.2.2.1 s.2.2.2.2.1 s.2.2.2.2.2.1 s.2.2.2.2.2.2.1 s.2.2.2.2.2.2.2.1 s.2.2.2.2.2.2.2.2.1 s.2.2.2.2.2.2.2.2.2.1 s.2.2.2.2.2.2.2.2.2.2.1 s.2.2.2.2.2.2.2.2.2.2.2.1 s.2.2.2.2.2.2.2.2.2.2.2.2) (fun s => I s.1 s.2.1 s.2.2.1 s.2.2.2.1 s.2.2.2.2.1 s.2.2.2.2.2.1 s.2.2.2.2.2.2.1 s.2.2.2.2.2.2.2.1 s.2.2.2.2.2.2.2.2.1 s.2.2.2.2.2.2.2.2.2.1 s.2.2.2.2.2.2.2.2.2.2.1 s.2.2.2.2.2.2.2.2.2.2.2.1 s.2.2.2.2.2.2.2.2.2.2.2.2) (fun s => μ s.1 s.2.1 s.2.2.1 s.2.2.2.1 s.2.2.2.2.1 s.2.2.2.2.2.1 s.2.2.2.2.2.2.1 s.2.2.2.2.2.2.2.1 s.2.2.2.2.2.2.2.2.1 s.2.2.2.2.2.2.2.2.2.1 s.2.2.2.2.2.2.2.2.2.2.1 s.2.2.2.2.2.2.2.2.2.2.2.1 s.2.2.2.2.2.2.2.2.2.2.2.2) (fun n s hI hk => hs n s.1 s.2.1 s.2.2.1 s.2.2.2.1 s.2.2.2.2.1 s.2.2.2.2.2.1 s.2.2.2.2.2.2.1 s.2.2.2.2.2.2.2.1 s.2.2.2.2.2.2.2.2.1 s.2.2.2.2.2.2.2.2.2.1 s.2.2.2.2.2.2.2.2.2.2.1 s.2.2.2.2.2.2.2.2.2.2.2.1 s.2.2.2.2.2.2.2.2.2.2.2.2 hI (fun b1 b2 b3 b4 b5 b6 b7 b8 b9 b10 b11 b12 b13 h9 hm => hk (b1, b2, b3, b4, b5, b6, b7, b8, b9, b10, b11, b12, b13) h9 hm)) (a1, a2, a3, a4, a5, a6, a7, a8, a9, a10, a11, a12, a13) h
theorem lp14 {A1 A2 A3 A4 A5 A6 A7 A8 A9 A10 A11 A12 A13 A14 : Type} (W : Nat → A1 → A2 → A3 → A4 → A5 → A6 → A7 → A8 → A9 → A10 → A11 → A12 → A13 → A14 → Prop) (I : A1 → A2 → A3 → A4 → A5 → A6 → A7 → A8 → A9 → A10 → A11 → A12 → A13 → A14 → Prop) (μ : A1 → A2 → A3 → A4 → A5 → A6 → A7 → A8 → A9 → A10 → A11 → A12 → A13 → A14 → Nat) (hs : ∀ (n : Nat) (a1 : A1) (a2 : A2) (a3 : A3) (a4 : A4) (a5 : A5) (a6 : A6) (a7 : A7) (a8 : A8) (a9 : A9) (a10 : A10) (a11 : A11) (a12 : A12) (a13 : A13) (a14 : A14), I a1 a2 a3 a4 a5 a6 a7 a8 a9 a10 a11 a12 a13 a14 → (∀ (b1 : A1) (b2 : A2) (b3 : A3) (b4 : A4) (b5 : A5) (b6 : A6) (b7 : A7) (b8 : A8) (b9 : A9) (b10 : A10) (b11 : A11) (b12 : A12) (b13 : A13) (b14 : A14), I b1 b2 b3 b4 b5 b6 b7 b8 b9 b10 b11 b12 b13 b14 → μ b1 b2 b3 b4 b5 b6 b7 b8 b9 b10 b11 b12 b13 b14 < μ a1 a2 a3 a4 a5 a6 a7 a8 a9 a10 a11 a12 a13 a14 → W n b1 b2 b3 b4 b5 b6 b7 b8 b9 b10 b11 b12 b13 b14) → W (n + 1) a1 a2 a3 a4 a5 a6 a7 a8 a9 a10 a11 a12 a13 a14) (a1 : A1) (a2 : A2) (a3 : A3) (a4 : A4) (a5 : A5) (a6 : A6) (a7 : A7) (a8 : A8) (a9 : A9) (a10 : A10) (a11 : A11) (a12 : A12) (a13 : A13) (a14 : A14) (h : I a1 a2 a3 a4 a5 a6 a7 a8 a9 a10 a11 a12 a13 a14) : ∃ n, W n a1 a2 a3 a4 a5 a6 a7 a8 a9 a10 a11 a12 a13 a14 :=
  loop_m (σ := A1 × A2 × A3 × A4 × A5 × A6 × A7 × A8 × A9 × A10 × A11 × A12 × A13 × A14) (fun n s => W n s.1 s.2.1 s.2.2.1 s.2.2.2.1 s.2.2.2.2.1 s.2.2.2.2.2.1 s.2.2.2.2.2.2.1 s.2.2.2.2.2.2.2.1 s.2.2.2.2.2.2.2.2.1 s.2.2.2.2.2.2.2.2.2.1 s.2.2.2.2.2.2.2.2.2.2.1 s.2.2.2.2.2.2.2.2.2.2.2.1 s.2.2.2.2.2.2.2.2.2.2.2.2.1 s.2.2.2.2.2.2.2.2.2.2.2.2.2) (fun s => I s.1 s.2.1 s.2.2.1 s.2.2.2.1 s.2.2.2.2.1 s.2.2.2.2.2.1 s.2.2.2.2.2.2.1 s.2.2.2.2.2.2.2.1 s.2.2.2.2.2.2.2.2.1 s.2.2.2.2.2.2.2.2.2.1 s.2.2.2.2.2.2.2.2.2.2.1 s.2.2.2.2.2.2.2.2.2.2.2.1 s.2.2.2.2.2.2.2.2.2.2.2.2.1 s.2.2.2.2.2.2.2.2.2.2.2.2.2) (fun s => μ s.1 s.2.1 s.2.2.1 s.2.2.2.1 s.2.2.2.2.1 s.2.2.2.2.2.1 s.2.2.2.2.2.2.1 s.2.2.2.2.2.2.2.1 s.2.2.2.2.2.2.2.2.1 s.2.2.2.2.2.2.2.2.2.1 s.2.2.2.2.2.2.2.2.2.2.1 s.2.2.2.2.2.2.2.2.2.2.2.1 s.2.2.2.2.2.2.2.2.2.2.2.2.1 s.2.2.2.2.2.2.2.2.2.2.2.2.2) (fun n s hI hk => hs n s.1 s.2.1 s.2.2.1 s.2.2.2.1 s.2.2.2.2.1 s.2.2.2.2.2.1 s.2.2.2.2.2.2.1 s.2.2.2.2.2.2.2.1 s.2.2.2.2.2.2.2.2.1 s.2.2.2.2.2.2.2.2.2.1 s.2.2.2.2.2.2.2.2.2.2.1 s.2.2.2.2.2.2.2.2.2.2.2.1 s.2.2.2.2.2.2.2.2.2.2.2.2.1 s.2.2.2.2.2.2.2.2.2.2.2.2.2 hI (fun b1 b2 b3 b4 b5 b6 b7 b8 b9 b10 b11 b12 b13 b14 h9 hm => hk (b1, b2, b3, b4, b5, b6, b7, b8, b9, b10, b11, b12, b13, b14) h9 hm)) (a1, a2, a3, a4, a5, a6, a7, a8, a9, a10, a11, a12, a13, a14) h
theorem lp15 {A1 A2 A3 A4 A5 A6 A7 A8 A9 A10 A11 A12 A13 A14 A15 : Type} (W : Nat → A1 → A2 → A3 → A4 → A5 → A6 → A7 → A8 → A9 → A10 → A11 → A12 → A13 → A14 → A15 → Prop) (I : A1 → A2 → A3 → A4 → A5 → A6 → A7 → A8 → A9 → A10 → A11 → A12 → A13 → A14 → A15 → Prop) (μ : A1 → A2 → A3 → A4 → A5 → A6 → A7 → A8 → A9 → A10 → A11 → A12 → A13 → A14 → A15 → Nat) (hs : ∀ (n : Nat) (a1 : A1) (a2 : A2) (a3 : A3) (a4 : A4) (a5 : A5) (a6 : A6) (a7 : A7) (a8 : A8) (a9 : A9) (a10 : A10) (a11 : A11) (a12 : A12) (a13 : A13) (a14 : A14) (a15 : A15), I a1 a2 a3 a4 a5 a6 a7 a8 a9 a10 a11 a12 a13 a14 a15 → (∀ (b1 : A1) (b2 : A2) (b3 : A3) (b4 : A4) (b5 : A5) (b6 : A6) (b7 : A7) (b8 : A8) (b9 : A9) (b10 : A10) (b11 : A11) (b12 : A12) (b13 : A13) (b14 : A14) (b15 : A15), I b1 b2 b3 b4 b5 b6 b7 b8 b9 b10 b11 b12 b13 b14 b15 → μ b1 b2 b3 b4 b5 b6 b7 b8 b9 b10 b11 b12 b13 b14 b15 < μ a1 a2 a3 a4 a5 a6 a7 a8 a9 a10 a11 a12 a13 a14 a15 → W n b1 b2 b3 b4 b5 b6 b7 b8 b9 b10 b11 b12 b13 b14 b15) → W (n + 1) a1 a2 a3 a4 a5 a6 a7 a8 a9 a10 a11 a12 a13 a14 a15) (a1 : A1) (a2 : A2) (a3 : A3) (a4 : A4) (a5 : A5) (a6 : A6) (a7 : A7) (a8 : A8) (a9 : A9) (a10 : A10) (a11 : A11) (a12 : A12) (a13 : A13) (a14 : A14) (a15 : A15) (h : I a1 a2 a3 a4 a5 a6 a7 a8 a9 a10 a11 a12 a13 a14 a15) : ∃ n, W n a1 a2 a3 a4 a5 a6 a7 a8 a9 a10 a11 a12 a13 a14 a15 :=
  loop_m (σ := A1 × A2 × A3 × A4 × A5 × A6 × A7 × A8 × A9 × A10 × A11 × A12 × A13 × A14 × A15) (fun n s => W n s.1 s.2.1 s.2.2.1 s.2.2.2.1 s.2.2.2.2.1 s.2.2.2.2.2.1 s.2.2.2.2.2.2.1 s.2.2.2.2.2.2.2.1 s.2.2.2.2.2.2.2.2.1 s.2.2.2.2.2.2.2.2.2.1 s.2.2.2.2.2.2.2.2.2.2.1 s.2.2.2.2.2.2.2.2.2.2.2.1 s.2.2.2.2.2.2.2.2.2.2.2.2.1 s.2.2.2.2.2.2.2.2.2.2.2.2.2.1 s.2.2.2.2.2.2.2.2.2.2.2.2.2.2) (fun s => I s.1 s.2.1 s.2.2.1 s.2.2.2.1 s.2.2.2.2.1 s.2.2.2.2.2.1 s.2.2.2.2.2.2.1 s.2.2.2.2.2.2.2.1 s.2.2.2.2.2.2.2.2.1 s.2.2.2.2.2.2.2.2.2.1 s.2.2.2.2.2.2.2.2.2.2.1 s.2.2.2.2.2.2.2.2.2.2.2.1 s.2.2.2.2.2.2.2.2.2.2.2.2.1 s.2.2.2.2.2.2.2.2.2.2.2.2.2.1 s.2.2.2.2.2.2.2.2.2.2.2.2.2.2) (fun s => μ s.1 s.2.1 s.2.2.1 s.2.2.2.1 s.2.2.2.2.1 s.2.2.2.2.2.1 s.2.2.2.2.2.2.1 s.2.2.2.2.2.2.2.1 s.2.2.2.2.2.2.2.2.1 s.2.2.2.2.2.2.2.2.2.1 s.2.2.2.2.2.2.2.2.2.2.1 s.2.2.2.2.2.2.2.2.2.2.2.1 s.2.2.2.2.2.2.2.2.2.2.2.2.1 s.2.2.2.2.2.2.2.2.2.2.2.2.2.1 s.2.2.2.2.2.2.2.2.2.2.2.2.2.2) (fun n s hI hk => hs n s.1 s.2.1 s.2.2.1 s.2.2.2.1 s.2.2.2.2.1 s.2.2.2.2.2.1 s.2.2.2.2.2.2.1 s.2.2.2.2.2.2.2.1 s.2.2.2.2.2.2.2.2.1 s.2.2.2.2.2.2.2.2.2.1 s.2.2.2.2.2.2.2.2.2.2.1 s.2.2.2.2.2.2.2.2.2.2.2.1 s.2.2.2.2.2.2.2.2.2.2.2.2.1 s.2.2.2.2.2.2.2.2.2.2.2.2.2.1 s.2.2.2.2.2.2.2.2.2.2.2.2.2.2 hI (fun b1 b2 b3 b4 b5 b6 b7 b8 b9 b10 b11 b12 b13 b14 b15 h9 hm => hk (b1, b2, b3, b4, b5, b6, b7, b8, b9, b10, b11, b12, b13, b14, b15) h9 hm)) (a1, a2, a3, a4, a5, a6, a7, a8, a9, a10, a11, a12, a13, a14, a15) h
theorem lp16 {A1 A2 A3 A4 A5 A6 A7 A8 A9 A10 A11 A12 A13 A14 A15 A16 : Type} (W : Nat → A1 → A2 → A3 → A4 → A5 → A6 → A7 → A8 → A9 → A10 → A11 → A12 → A13 → A14 → A15 → A16 → Prop) (I : A1 → A2 → A3 → A4 → A5 → A6 → A7 → A8 → A9 → A10 → A11 → A12 → A13 → A14 → A15 → A16 → Prop) (μ : A1 → A2 → A3 → A4 → A5 → A6 → A7 → A8 → A9 → A10 → A11 → A12 → A13 → A14 → A15 → A16 → Nat) (hs : ∀ (n : Nat) (a1 : A1) (a2 : A2) (a3 : A3) (a4 : A4) (a5 : A5) (a6 : A6) (a7 : A7) (a8 : A8) (a9 : A9) (a10 : A10) (a11 : A11) (a12 : A12) (a13 : A13) (a14 : A14) (a15 : A15) (a16 : A16), I a1 a2 a3 a4 a5 a6 a7 a8 a9 a10 a11 a12 a13 a14 a15 a16 → (∀ (b1 : A1) (b2 : A2) (b3 : A3) (b4 : A4) (b5 : A5) (b6 : A6) (b7 : A7) (b8 : A8) (b9 : A9) (b10 : A10) (b11 : A11) (b12 : A12) (b13 : A13) (b14 : A14) (b15 : A15) (b16 : A16), I b1 b2 b3 b4 b5 b6 b7 b8 b9 b10 b11 b12 b13 b14 b15 b16 → μ b1 b2 b3 b4 b5 b6 b7 b8 b9 b10 b11 b12 b13 b14 b15 b16 < μ a1 a2 a3 a4 a5 a6 a7 a8 a9 a10 a11 a12 a13 a14 a15 a16 → W n b1 b2 b3 b4 b5 b6 b7 b8 b9 b10 b11 b12 b13 b14 b15 b16) → W (n + 1) a1 a2 a3 a4 a5 a6 a7 a8 a9 a10 a11 a12 a13 a14 a15 a16) (a1 : A1) (a2 : A2) (a3 : A3) (a4 : A4) (a5 : A5) (a6 : A6) (a7 : A7) (a8 : A8) (a9 : A9) (a10 : A10) (a11 : A11) (a12 : A12) (a13 : A13) (a14 : A14) (a15 : A15) (a16 : A16) (h : I a1 a2 a3 a4 a5 a6 a7 a8 a9 a10 a11 a12 a13 a14 a15 a16) : ∃ n, W n a1 a2 a3 a4 a5 a6 a7 a8 a9 a10 a11 a12 a13 a14 a15 a16 :=
  loop_m (σ := A1 × A2 × A3 × A4 × A5 × A6 × A7 × A8 × A9 × A10 × A11 × A12 × A13 × A14 × A15 × A16) (fun n s => W n s.1 s.2.1 s.2.2.1 s.2.2.2.1 s.2.2.2.2.1 s.2.2.2.2.2.1 s.2.2.2.2.2.2.1 s.2.2.2.2.2.2.2.1 s.2.2.2.2.2.2.2.2.1 s.2.2.2.2.2.2.2.2.2.1 s.2.2.2.2.2.2.2.2.2.2.1 s.2.2.2.2.2.2.2.2.2.2.2.1 s.2.2.2.2.2.2.2.2.2.2.2.2.1 s.2.2.2.2.2.2.2.2.2.2.2.2.2.1 s.2.2.2.2.2.2.2.2.2.2.2.2.2.2.1 s.2.2.2.2.2.2.2.2.2.2.2.2.2.2.2) (fun s => I s.1 s.2.1 s.2.2.1 s.2.2.2.1 s.2.2.2.2.1 s.2.2.2.2.2.1 s.2.2.2.2.2.2.1 s.2.2.2.2.2.2.2.1 s.2.2.2.2.2.2.2.2.1 s.2.2.2.2.2.2.2.2.2.1 s.2.2.2.2.2.2.2.2.2.2.1 s.2.2.2.2.2.2.2.2.2.2.2.1 s.2.2.2.2.2.2.2.2.2.2.2.2.1 s.2.2.2.2.2.2.2.2.2.2.2.2.2.1 s.2.2.2.2.2.2.2.2.2.2.2.2.2.2.1 s.2.2.2.2.2.2.2.2.2.2.2.2.2.2.2) (fun s => μ s.1 s.2.1 s.2.2.1 s.2.2.2.1 s.2.2.2.2.1 s.2.2.2.2.2.1 s.2.2.2.2.2.2.1 s.2.2.2.2.2.2.2.1 s.2.2.2.2.2.2.2.2.1 s.2.2.2.2.2.2.2.2.2.1 s.2.2.2.2.2.2.2.2.2.2.1 s.2.2.2.2.2.2.2.2.2.2.2.1 s.2.2.2.2.2.2.2.2.2.2.2.2.1 s.2.2.2.2.2.2.2.2.2.2.2.2.2.1 s.2.2.2.2.2.2.2.2.2.2.2.2.2.2.1 s.2.2.2.2.2.2.2.2.2.2.2.2.2.2.2) (fun n s hI hk => hs n s.1 s.2.1 s.2.2.1 s.2.2.2.1 s.2.2.2.2.1 s.2.2.2.2.2.1 s.2.2.2.2.2.2.1 s.2.2.2.2.2.2.2.1 s.2.2.2.2.2.2.2.2.1 s.2.2.2.2.2.2.2.2.2.1 s.2.2.2.2.2.2.2.2.2.2.1 s.2.2.2.2.2.2.2.2.2.2.2.1 s.2.2.2.2.2.2.2.2.2.2.2.2.1 s.2.2.2.2.2.2.2.2.2.2.2.2.2.1 s.2.2.2.2.2.2.2.2.2.2.2.2.2.2.1 s.2.2.2.2.2.2.2.2.2.2.2.2.2.2.2 hI (fun b1 b2 b3 b4 b5 b6 b7 b8 b9 b10 b11 b12 b13 b14 b15 b16 h9 hm => hk (b1, b2, b3, b4, b5, b6, b7, b8, b9, b10, b11, b12, b13, b14, b15, b16) h9 hm)) (a1, a2, a3, a4, a5, a6, a7, a8, a9, a10, a11, a12, a13, a14, a15, a16) h
theorem pk_least (P : Nat → Prop) (h : ∃ k, P k) : ∃ k, P k ∧ ∀ j, j < k → ¬ P j := by
  obtain ⟨k, hk⟩ := h
  induction k using Nat.strongRecOn with
  | ind k ih =>
    by_cases e : ∃ j, j < k ∧ P j
    · obtain ⟨j, hj, pj⟩ := e
      exact ih j hj pj
    · exact ⟨k, hk, fun j hj pj => e ⟨j, hj, pj⟩⟩
theorem rp1 {ρ A1 : Type} (W : Nat → (ρ → Prop) → A1 → Prop) (ok : A1 → Prop) (μ : A1 → Nat) (val : A1 → ρ)
    (hs : ∀ (d : Nat) (post : ρ → Prop) (a1 : A1), ok a1 → post (val a1) → (∀ (post' : ρ → Prop) (b1 : A1), ok b1 → μ b1 < μ a1 → post' (val b1) → W d post' b1) → W (d + 1) post a1) :
    ∀ (d : Nat) (post : ρ → Prop) (a1 : A1), ok a1 → μ a1 < d → post (val a1) → W d post a1 := by
  intro d
  induction d with
  | zero => intro post a1 _ h; omega
  | succ d ih =>
    intro post a1 ho hm hp
    exact hs d post a1 ho hp (fun post' b1 ho' hm' hp' => ih post' b1 ho' (by omega) hp')
theorem rp2 {ρ A1 A2 : Type} (W : Nat → (ρ → Prop) → A1 → A2 → Prop) (ok : A1 → A2 → Prop) (μ : A1 → A2 → Nat) (val : A1 → A2 → ρ)
    (hs : ∀ (d : Nat) (post : ρ → Prop) (a1 : A1) (a2 : A2), ok a1 a2 → post (val a1 a2) → (∀ (post' : ρ → Prop) (b1 : A1) (b2 : A2), ok b1 b2 → μ b1 b2 < μ a1 a2 → post' (val b1 b2) → W d post' b1 b2) → W (d + 1) post a1 a2) :
    ∀ (d : Nat) (post : ρ → Prop) (a1 : A1) (a2 : A2), ok a1 a2 → μ a1 a2 < d → post (val a1 a2) → W d post a1 a2 := by
  intro d
  induction d with
  | zero => intro post a1 a2 _ h; omega
  | succ d ih =>
    intro post a1 a2 ho hm hp
    exact hs d post a1 a2 ho hp (fun post' b1 b2 ho' hm' hp' => ih post' b1 b2 ho' (by omega) hp')
theorem rp3 {ρ A1 A2 A3 : Type} (W : Nat → (ρ → Prop) → A1 → A2 → A3 → Prop) (ok : A1 → A2 → A3 → Prop) (μ : A1 → A2 → A3 → Nat) (val : A1 → A2 → A3 → ρ)
    (hs : ∀ (d : Nat) (post : ρ → Prop) (a1 : A1) (a2 : A2) (a3 : A3), ok a1 a2 a3 → post (val a1 a2 a3) → (∀ (post' : ρ → Prop) (b1 : A1) (b2 : A2) (b3 : A3), ok b1 b2 b3 → μ b1 b2 b3 < μ a1 a2 a3 → post' (val b1 b2 b3) → W d post' b1 b2 b3) → W (d + 1) post a1 a2 a3) :
    ∀ (d : Nat) (post : ρ → Prop) (a1 : A1) (a2 : A2) (a3 : A3), ok a1 a2 a3 → μ a1 a2 a3 < d → post (val a1 a2 a3) → W d post a1 a2 a3 := by
  intro d
  induction d with
  | zero => intro post a1 a2 a3 _ h; omega
  | succ d ih =>
    intro post a1 a2 a3 ho hm hp
    exact hs d post a1 a2 a3 ho hp (fun post' b1 b2 b3 ho' hm' hp' => ih post' b1 b2 b3 ho' (by omega) hp')
theorem rp4 {ρ A1 A2 A3 A4 : Type} (W : Nat → (ρ → Prop) → A1 → A2 → A3 → A4 → Prop) (ok : A1 → A2 → A3 → A4 → Prop) (μ : A1 → A2 → A3 → A4 → Nat) (val : A1 → A2 → A3 → A4 → ρ)
    (hs : ∀ (d : Nat) (post : ρ → Prop) (a1 : A1) (a2 : A2) (a3 : A3) (a4 : A4), ok a1 a2 a3 a4 → post (val a1 a2 a3 a4) → (∀ (post' : ρ → Prop) (b1 : A1) (b2 : A2) (b3 : A3) (b4 : A4), ok b1 b2 b3 b4 → μ b1 b2 b3 b4 < μ a1 a2 a3 a4 → post' (val b1 b2 b3 b4) → W d post' b1 b2 b3 b4) → W (d + 1) post a1 a2 a3 a4) :
    ∀ (d : Nat) (post : ρ → Prop) (a1 : A1) (a2 : A2) (a3 : A3) (a4 : A4), ok a1 a2 a3 a4 → μ a1 a2 a3 a4 < d → post (val a1 a2 a3 a4) → W d post a1 a2 a3 a4 := by
  intro d
  induction d with
  | zero => intro post a1 a2 a3 a4 _ h; omega
  | succ d ih =>
    intro post a1 a2 a3 a4 ho hm hp
    exact hs d post a1 a2 a3 a4 ho hp (fun post' b1 b2 b3 b4 ho' hm' hp' => ih post' b1 b2 b3 b4 ho' (by omega) hp')
theorem rp5 {ρ A1 A2 A3 A4 A5 : Type} (W : Nat → (ρ → Prop) → A1 → A2 → A3 → A4 → A5 → Prop) (ok : A1 → A2 → A3 → A4 → A5 → Prop) (μ : A1 → A2 → A3 → A4 → A5 → Nat) (val : A1 → A2 → A3 → A4 → A5 → ρ)
    (hs : ∀ (d : Nat) (post : ρ → Prop) (a1 : A1) (a2 : A2) (a3 : A3) (a4 : A4) (a5 : A5), ok a1 a2 a3 a4 a5 → post (val a1 a2 a3 a4 a5) → (∀ (post' : ρ → Prop) (b1 : A1) (b2 : A2) (b3 : A3) (b4 : A4) (b5 : A5), ok b1 b2 b3 b4 b5 → μ b1 b2 b3 b4 b5 < μ a1 a2 a3 a4 a5 → post' (val b1 b2 b3 b4 b5) → W d post' b1 b2 b3 b4 b5) → W (d + 1) post a1 a2 a3 a4 a5) :
    ∀ (d : Nat) (post : ρ → Prop) (a1 : A1) (a2 : A2) (a3 : A3) (a4 : A4) (a5 : A5), ok a1 a2 a3 a4 a5 → μ a1 a2 a3 a4 a5 < d → post (val a1 a2 a3 a4 a5) → W d post a1 a2 a3 a4 a5 := by
  intro d
  induction d with
  | zero => intro post a1 a2 a3 a4 a5 _ h; omega
  | succ d ih =>
    intro post a1 a2 a3 a4 a5 ho hm hp
    exact hs d post a1 a2 a3 a4 a5 ho hp (fun post' b1 b2 b3 b4 b5 ho' hm' hp' => ih post' b1 b2 b3 b4 b5 ho' (by omega) hp')
theorem rp6 {ρ A1 A2 A3 A4 A5 A6 : Type} (W : Nat → (ρ → Prop) → A1 → A2 → A3 → A4 → A5 → A6 → Prop) (ok : A1 → A2 → A3 → A4 → A5 → A6 → Prop) (μ : A1 → A2 → A3 → A4 → A5 → A6 → Nat) (val : A1 → A2 → A3 → A4 → A5 → A6 → ρ)
    (hs : ∀ (d : Nat) (post : ρ → Prop) (a1 : A1) (a2 : A2) (a3 : A3) (a4 : A4) (a5 : A5) (a6 : A6), ok a1 a2 a3 a4 a5 a6 → post (val a1 a2 a3 a4 a5 a6) → (∀ (post' : ρ → Prop) (b1 : A1) (b2 : A2) (b3 : A3) (b4 : A4) (b5 : A5) (b6 : A6), ok b1 b2 b3 b4 b5 b6 → μ b1 b2 b3 b4 b5 b6 < μ a1 a2 a3 a4 a5 a6 → post' (val b1 b2 b3 b4 b5 b6) → W d post' b1 b2 b3 b4 b5 b6) → W (d + 1) post a1 a2 a3 a4 a5 a6) :
    ∀ (d : Nat) (post : ρ → Prop) (a1 : A1) (a2 : A2) (a3 : A3) (a4 : A4) (a5 : A5) (a6 : A6), ok a1 a2 a3 a4 a5 a6 → μ a1 a2 a3 a4 a5 a6 < d → post (val a1 a2 a3 a4 a5 a6) → W d post a1 a2 a3 a4 a5 a6 := by
  intro d
  induction d with
  | zero => intro post a1 a2 a3 a4 a5 a6 _ h; omega
  | succ d ih =>
    intro post a1 a2 a3 a4 a5 a6 ho hm hp
    exact hs d post a1 a2 a3 a4 a5 a6 ho hp (fun post' b1 b2 b3 b4 b5 b6 ho' hm' hp' => ih post' b1 b2 b3 b4 b5 b6 ho' (by omega) hp')
theorem rec_p {σ ρ : Type} (W : Nat → (ρ → Prop) → σ → Prop) (ok : σ → Prop) (μ : σ → Nat) (val : σ → ρ)
    (hs : ∀ d s post, ok s → post (val s) → (∀ s' post', ok s' → μ s' < μ s → post' (val s') → W d post' s') → W (d + 1) post s) :
    ∀ d s post, ok s → μ s < d → post (val s) → W d post s := by
  intro d
  induction d with
  | zero => intro s post _ h; omega
  | succ d ih =>
    intro s post ho hm hp
    exact hs d s post ho hp (fun s' post' ho' hm' hp' => ih s' post' ho' (by omega) hp')
theorem rec_q {σ ρ : Type} (W : Nat → (ρ → Prop) → σ → Prop) (ok : σ → Prop) (μ : σ → Nat) (Q : σ → ρ → Prop)
    (hs : ∀ d s post, ok s → (∀ r, Q s r → post r) → (∀ s' post', ok s' → μ s' < μ s → (∀ r, Q s' r → post' r) → W d post' s') → W (d + 1) post s) :
    ∀ d s post, ok s → μ s < d → (∀ r, Q s r → post r) → W d post s := by
  intro d
  induction d with
  | zero => intro s post _ h; omega
  | succ d ih =>
    intro s post ho hm hp
    exact hs d s post ho hp (fun s' post' ho' hm' hp' => ih s' post' ho' (by omega) hp')
def bx_sum (f : Nat → Int32) : Nat → Int32
  | 0 => 0
  | n + 1 => bx_sum f n + f n
theorem ek_u {A : Prop} {B : Nat → Prop} {k N : Nat} (hk : k < N) (h : B k) : (some k = none → A) ∧ (∀ y : Nat, some k = some y → (y < N ∧ B y)) :=
  ⟨fun z => absurd z (Option.some_ne_none k), fun _ e => (by cases e; exact ⟨hk, h⟩)⟩
theorem ek_nu {A : Prop} {B : Nat → Prop} (h : A) : ((none : Option Nat) = none → A) ∧ (∀ y : Nat, (none : Option Nat) = some y → B y) :=
  ⟨fun _ => h, fun _ e => (by cases e)⟩
theorem ek_if {c d A B : Prop} (e : c ↔ d) (f : d → A) (g : ¬ d → B) : (c → A) ∧ (¬ c → B) :=
  ⟨fun z => f (e.mp z), fun z => g (fun y => z (e.mpr y))⟩
theorem ek_v {α : Sort _} {P : α → Prop} {a b : α} (e : a = b) (h : P b) : P a := e ▸ h
theorem co_some {x : Option Nat} {A : Prop} {B : Nat → Prop} (i : Nat) (h : B i) (hx : x = some i := by rfl) : (x = none → A) ∧ (∀ y : Nat, x = some y → B y) := by
  subst hx
  exact ⟨fun e => (nomatch e), fun y e => Option.some.inj e ▸ h⟩
theorem co_none {x : Option Nat} {A : Prop} {B : Nat → Prop} (h : A) (hx : x = none := by rfl) : (x = none → A) ∧ (∀ y : Nat, x = some y → B y) := by
  subst hx
  exact ⟨fun _ => h, fun y e => (nomatch e)⟩
theorem co_any {x : Option Nat} {A : Prop} {B : Nat → Prop} (hn : x = none → A) (hs : ∀ i : Nat, x = some i → B i) : (x = none → A) ∧ (∀ y : Nat, x = some y → B y) := ⟨hn, hs⟩
theorem co_2 {P : Nat → Prop} (h0 : P 0) (h1 : P 1) {i : Nat} (hi : i < 2) : P i :=
  match i, hi with
  | 0, _ => h0
  | 1, _ => h1
theorem co_3 {P : Nat → Prop} (h0 : P 0) (h1 : P 1) (h2 : P 2) {i : Nat} (hi : i < 3) : P i :=
  match i, hi with
  | 0, _ => h0
  | 1, _ => h1
  | 2, _ => h2
theorem co_4 {P : Nat → Prop} (h0 : P 0) (h1 : P 1) (h2 : P 2) (h3 : P 3) {i : Nat} (hi : i < 4) : P i :=
  match i, hi with
  | 0, _ => h0
  | 1, _ => h1
  | 2, _ => h2
  | 3, _ => h3
theorem co_dec {N : Nat} {P : Nat → Prop} [DecidablePred P] (h : (List.range N).all (fun i => decide (P i)) = true) {i : Nat} (hi : i < N) : P i := by
  have := List.all_eq_true.mp h i (List.mem_range.mpr hi)
  exact of_decide_eq_true this
theorem co_tab {α : Type} {l : List α} {d : α} {P : α → Prop} (h : ∀ a, a ∈ l → P a) {i : Nat} (hi : i < l.length) : P (l.getD i d) := by
  rw [List.getD_eq_getElem?_getD, List.getElem?_eq_getElem hi]
  exact h _ (List.getElem_mem hi)
theorem pk_mu {x : Int32} {L : Nat} (h0 : ¬ x < 0) (h : ¬ nI L ≤ x) (hL : L < 2 ^ 31) : ∃ j : Nat, j < L ∧ x = nI j ∧ x + 1 = nI (j + 1) ∧ x.toNatClampNeg = j ∧ L - (x + 1).toNatClampNeg < L - x.toNatClampNeg := by
  obtain ⟨j, hj, rfl⟩ := nI_of h0
  have hl : j < L := Nat.not_le.mp fun q => h (nI_le q hj)
  refine ⟨j, hl, rfl, nI_1 j, nI_clamp hj, ?_⟩
  rw [nI_1, nI_clamp (by omega), nI_clamp hj]
  omega
theorem op_s {α : Type} {r : Option α} {A : Prop} {B : α → Prop} {y : α} (h : r = some y) (b : B y) : (r = none → A) ∧ ∀ z, r = some z → B z :=
  ⟨fun e => (by rw [h] at e; cases e), fun z e => (by rw [h] at e; cases e; exact b)⟩
def l_holds {α : Type} (a : Nat → Option Nat) (LP : List Nat) (p : Nat → α) (c : Nat) (b : Nat → α) : Prop :=
  ∀ j, j < c → ∃ y, a j = some y ∧ y ∈ LP ∧ p y = b j
theorem l_holds_0 {α : Type} {a : Nat → Option Nat} {LP : List Nat} {p b : Nat → α} : l_holds a LP p 0 b := fun j h => absurd h (Nat.not_lt_zero j)
theorem l_in_new (LP : List Nat) (q : Nat) : q ∈ LP ++ [q] := List.mem_append.mpr (Or.inr (List.mem_singleton.mpr rfl))
def l_sum (b : Nat → Int32) : Nat → Int32
  | 0 => 0
  | k + 1 => l_sum b k + b k
theorem sb_shr0 (x : Int32) : x >>> ((0 : Int32) &&& 31) = x := by
  rw [show ((0 : Int32) &&& 31) = 0 by decide]
  simp
theorem sb_shl0 (x : Int32) : x <<< ((0 : Int32) &&& 31) = x := by
  rw [show ((0 : Int32) &&& 31) = 0 by decide]
  simp
theorem sb_cl0 : (0 : Int32).toNatClampNeg = 0 := by decide
theorem sb_m1 {p : Nat} (h : 0 < p) : nI p + (-1) = nI (p - 1) := by
  obtain ⟨q, rfl⟩ : ∃ q, p = q + 1 := ⟨p - 1, by omega⟩
  exact pk_m1 q
def sb_b (c : Nat) : Int32 := (nI c).toInt8.toInt32
theorem sb_byte : ∀ c, c < 256 → sb_b c &&& 255 = nI c ∧ ((nI c).toUInt32 % 65536).toInt32 = nI c ∧ nI c ≤ 255 := by decide +kernel
def sb_Fit (a : Nat → Int32) : Prop := ∀ j, fits .byte (.int (a j)) = true
def sb_Lat (t : Nat → Nat) (n : Nat) (a : Nat → Int32) : Prop := ∀ j, j < n → t j < 256 ∧ a j = sb_b (t j)
theorem sb_fitB (c : Nat) : fits .byte (.int (sb_b c)) = true := pk_fb _
theorem sb_fit0 : sb_Fit (fun _ => 0) := fun _ => by
  show fits .byte (.int 0) = true
  decide
theorem sb_fitU {a : Nat → Int32} {k : Nat} {x : Int32} (h : sb_Fit a) (hx : fits .byte (.int x) = true) : sb_Fit (upd a k x) := by
  intro j
  by_cases e : j = k
  · subst e
    rw [pk_us]
    exact hx
  · rw [pk_un e]
    exact h j
def sb_cat (t : Nat → Nat) (n : Nat) (s : Nat → Nat) : Nat → Nat := fun j => if j < n then t j else s (j - n)
theorem sb_cat_lo {t s : Nat → Nat} {n j : Nat} (h : j < n) : sb_cat t n s j = t j := if_pos h
theorem sb_cat_hi {t s : Nat → Nat} {n j : Nat} : sb_cat t n s (n + j) = s j := by
  show (if n + j < n then t (n + j) else s (n + j - n)) = s j
  rw [if_neg (by omega), Nat.add_sub_cancel_left]
theorem sb_latPut {t s : Nat → Nat} {n w : Nat} {a a' : Nat → Int32} (h : sb_Lat t n a) (hk : ∀ j, j < n → a' j = a j) (hs : ∀ i, i < w → s i < 256 ∧ a' (n + i) = sb_b (s i)) : sb_Lat (sb_cat t n s) (n + w) a' := by
  intro j hj
  by_cases e : j < n
  · rw [sb_cat_lo e, hk j e]
    exact h j e
  · obtain ⟨i, rfl⟩ : ∃ i, j = n + i := ⟨j - n, by omega⟩
    rw [sb_cat_hi]
    exact hs i (by omega)
theorem sb_latKeep {t : Nat → Nat} {n : Nat} {a a' : Nat → Int32} (h : sb_Lat t n a) (hk : ∀ j, j < n → a' j = a j) : sb_Lat t n a' := fun j hj => by
  rw [hk j hj]
  exact h j hj
def sb_cap (q m : Nat) : Nat := if q ≤ m then m else if 2 * m + 2 < q then q else 2 * m + 2
def sb_Room (q m mc ms : Nat) : Prop := q ≤ m ∨ (1 ≤ mc ∧ sb_cap q m ≤ ms ∧ sb_cap q m ≤ 65536)
theorem sb_cap_ge (q m : Nat) : q ≤ sb_cap q m := by
  unfold sb_cap
  split
  · omega
  · split <;> omega
theorem sb_cap_gem (q m : Nat) : m ≤ sb_cap q m := by
  unfold sb_cap
  split
  · omega
  · split <;> omega
theorem sb_cap_le {q m mc ms : Nat} (hm : m ≤ 65536) (hr : sb_Room q m mc ms) : sb_cap q m ≤ 65536 := by
  rcases hr with h | h
  · rw [sb_cap, if_pos h]
    exact hm
  · exact h.2.2
theorem sb_at {P : Int32 → Prop} {x y : Int32} (e : x = y) (h : P y) : P x := e ▸ h
def sb_dg (w : Nat) : Nat := if w < 10 then 1 else if w < 100 then 2 else if w < 1000 then 3 else if w < 10000 then 4 else if w < 100000 then 5 else if w < 1000000 then 6 else if w < 10000000 then 7 else if w < 100000000 then 8 else if w < 1000000000 then 9 else 10
def sb_dec (v : Nat) : Nat → Nat := fun i => 48 + v / 10 ^ (sb_dg v - 1 - i) % 10
theorem sb_dg_in (w : Nat) : 1 ≤ sb_dg w ∧ sb_dg w ≤ 10 := by
  unfold sb_dg
  constructor <;> (repeat' split) <;> omega
theorem sb_dg100 {w : Nat} (h : 100 ≤ w) (hw : w < 2 ^ 31) : sb_dg w = sb_dg (w / 100) + 2 := by
  rw [sb_dg, sb_dg, if_neg (show ¬ w < 10 by omega), if_neg (show ¬ w < 100 by omega)]
  by_cases h3 : w < 1000
  · rw [if_pos h3, if_pos (show w / 100 < 10 by omega)]
  rw [if_neg h3, if_neg (show ¬ w / 100 < 10 by omega)]
  by_cases h4 : w < 10000
  · rw [if_pos h4, if_pos (show w / 100 < 100 by omega)]
  rw [if_neg h4, if_neg (show ¬ w / 100 < 100 by omega)]
  by_cases h5 : w < 100000
  · rw [if_pos h5, if_pos (show w / 100 < 1000 by omega)]
  rw [if_neg h5, if_neg (show ¬ w / 100 < 1000 by omega)]
  by_cases h6 : w < 1000000
  · rw [if_pos h6, if_pos (show w / 100 < 10000 by omega)]
  rw [if_neg h6, if_neg (show ¬ w / 100 < 10000 by omega)]
  by_cases h7 : w < 10000000
  · rw [if_pos h7, if_pos (show w / 100 < 100000 by omega)]
  rw [if_neg h7, if_neg (show ¬ w / 100 < 100000 by omega)]
  by_cases h8 : w < 100000000
  · rw [if_pos h8, if_pos (show w / 100 < 1000000 by omega)]
  rw [if_neg h8, if_neg (show ¬ w / 100 < 1000000 by omega)]
  by_cases h9 : w < 1000000000
  · rw [if_pos h9, if_pos (show w / 100 < 10000000 by omega)]
  rw [if_neg h9, if_neg (show ¬ w / 100 < 10000000 by omega)]
  rw [if_pos (show w / 100 < 100000000 by omega)]
theorem sb_negT {w : Nat} (h : w < 2 ^ 31) : (-nI w).toInt = -(w : Int) := by
  rw [Int32.toInt_neg, nI_toInt h]
  exact Int.bmod_eq_of_le (by omega) (by omega)
theorem sb_nle {a b : Nat} (ha : a < 2 ^ 31) (hb : b < 2 ^ 31) : -nI a ≤ -nI b ↔ b ≤ a := by
  rw [Int32.le_iff_toInt_le, sb_negT ha, sb_negT hb]
  omega
theorem sb_nlt {a b : Nat} (ha : a < 2 ^ 31) (hb : b < 2 ^ 31) : -nI a < -nI b ↔ b < a := by
  rw [Int32.lt_iff_toInt_lt, sb_negT ha, sb_negT hb]
  omega
theorem sb_cmp {A B : Prop} {x : Int32} (v c : Nat) (f : c ≤ v → A) (g : v < c → B) (hv : v < 2 ^ 31) (hx : x = -nI c := by rfl) (hc : c < 2 ^ 31 := by omega) : (-nI v ≤ x → A) ∧ (¬ -nI v ≤ x → B) := by
  subst hx
  rw [sb_nle hv hc]
  exact ⟨f, fun z => g (by omega)⟩
theorem sb_ndiv {w : Nat} (hw : w < 2 ^ 31) : (-nI w) / 100 = -nI (w / 100) := by
  apply Int32.toInt_inj.mp
  have h100 : (100 : Int32).toInt = 100 := by decide
  rw [Int32.toInt_div, sb_negT hw, h100, sb_negT (by omega), Int.neg_tdiv, Int.tdiv_eq_ediv_of_nonneg (by omega), Int.bmod_eq_of_le (by omega) (by omega)]
  omega
theorem sb_nrem {w : Nat} (hw : w < 2 ^ 31) : (-nI (w / 100)) * 100 - (-nI w) = nI (w % 100) := by
  have h := pk_rem (a := w) (d := 100) hw (by decide) (by decide)
  rw [pk_div hw (by decide) (by decide)] at h
  rw [← h]
  show (-nI (w / 100)) * nI 100 - (-nI w) = nI w - nI (w / 100) * nI 100
  rw [Int32.neg_mul, Int32.sub_neg, Int32.add_comm, ← Int32.sub_eq_add_neg]
end
section
/-! rows on bits, shifts and unsigned numbers, to paste: each family out of a closed proof of our own, whole with what it rests on; each by itself clean at Lean in its own claim (generation 39, form 5). Take a family whole -/
/-! ===== Int32 by its bits: bt x i ===== -/
def bt (x : Int32) (i : Nat) : Bool := x.toBitVec.getLsbD i
theorem b_ext {x y : Int32} (h : ∀ i, i < 32 → bt x i = bt y i) : x = y := Int32.toBitVec_inj.mp (BitVec.eq_of_getLsbD_eq (fun i hi => h i hi))
theorem b_or (x y : Int32) (i : Nat) : bt (x ||| y) i = (bt x i || bt y i) := by unfold bt; rw [Int32.toBitVec_or, BitVec.getLsbD_or]
theorem b_and (x y : Int32) (i : Nat) : bt (x &&& y) i = (bt x i && bt y i) := by unfold bt; rw [Int32.toBitVec_and, BitVec.getLsbD_and]
theorem b_xor (x y : Int32) (i : Nat) : bt (x ^^^ y) i = (bt x i ^^ bt y i) := by unfold bt; rw [Int32.toBitVec_xor, BitVec.getLsbD_xor]
theorem b_big {x : Int32} {i : Nat} (h : 32 ≤ i) : bt x i = false := BitVec.getLsbD_of_ge _ _ h
theorem b_255 (i : Nat) : bt 255 i = decide (i < 8) := by
  rcases Nat.lt_or_ge i 32 with h | h
  · exact (by decide +kernel : ∀ i, i < 32 → bt 255 i = decide (i < 8)) i h
  · rw [b_big h, decide_eq_false (by omega)]
theorem b_65535 (i : Nat) : bt 65535 i = decide (i < 16) := by
  rcases Nat.lt_or_ge i 32 with h | h
  · exact (by decide +kernel : ∀ i, i < 32 → bt 65535 i = decide (i < 16)) i h
  · rw [b_big h, decide_eq_false (by omega)]
theorem b_m1 : ∀ i, i < 32 → bt (-1) i = true := by decide +kernel
theorem b_0 (i : Nat) : bt 0 i = false := BitVec.getLsbD_zero
theorem s_l : ∀ n, n < 32 → ((nI n &&& 31).toBitVec.smod 32).toNat = n := by decide +kernel
theorem s_u : ∀ n, n < 32 → (((nI n).toUInt32 &&& Int32.toUInt32 31).toBitVec % 32).toNat = n := by decide +kernel
theorem b_shl (n : Nat) (hn : n < 32) (x : Int32) {i : Nat} (hi : i < 32) : bt (x <<< (nI n &&& 31)) i = (decide (n ≤ i) && bt x (i - n)) := by
  unfold bt
  rw [Int32.toBitVec_shiftLeft]
  show (x.toBitVec <<< ((nI n &&& 31).toBitVec.smod 32).toNat).getLsbD i = _
  rw [s_l n hn, BitVec.getLsbD_shiftLeft]
  rcases Nat.lt_or_ge i n with h | h
  · simp [h, Nat.not_le.mpr h]
  · simp [hi, h, Nat.not_lt.mpr h]
theorem b_ushr (n : Nat) (hn : n < 32) (x : Int32) (i : Nat) : bt ((x.toUInt32 >>> ((nI n).toUInt32 &&& Int32.toUInt32 31)).toInt32) i = bt x (n + i) := by
  show (x.toUInt32 >>> ((nI n).toUInt32 &&& Int32.toUInt32 31)).toBitVec.getLsbD i = x.toUInt32.toBitVec.getLsbD (n + i)
  rw [UInt32.toBitVec_shiftRight]
  show (x.toUInt32.toBitVec >>> (((nI n).toUInt32 &&& Int32.toUInt32 31).toBitVec % 32).toNat).getLsbD i = _
  rw [s_u n hn, BitVec.getLsbD_ushiftRight]
theorem b_sshr (n : Nat) (hn : n < 32) (x : Int32) {i : Nat} (hi : i < 32) : bt (x >>> (nI n &&& 31)) i = if n + i < 32 then bt x (n + i) else bt x 31 := by
  unfold bt
  rw [Int32.toBitVec_shiftRight]
  show (x.toBitVec.sshiftRight ((nI n &&& 31).toBitVec.smod 32).toNat).getLsbD i = _
  rw [s_l n hn, BitVec.getLsbD_sshiftRight, BitVec.msb_eq_getLsbD_last]
  simp [hi]
theorem b_shl8 (x : Int32) {i : Nat} (hi : i < 32) : bt (x <<< ((8 : Int32) &&& 31)) i = (decide (8 ≤ i) && bt x (i - 8)) := b_shl 8 (by omega) x hi
theorem b_shl16 (x : Int32) {i : Nat} (hi : i < 32) : bt (x <<< ((16 : Int32) &&& 31)) i = (decide (16 ≤ i) && bt x (i - 16)) := b_shl 16 (by omega) x hi
theorem b_shl24 (x : Int32) {i : Nat} (hi : i < 32) : bt (x <<< ((24 : Int32) &&& 31)) i = (decide (24 ≤ i) && bt x (i - 24)) := b_shl 24 (by omega) x hi
theorem b_sshr8 (x : Int32) {i : Nat} (hi : i < 32) : bt (x >>> ((8 : Int32) &&& 31)) i = if 8 + i < 32 then bt x (8 + i) else bt x 31 := b_sshr 8 (by omega) x hi
/-! ===== nI under and, xor, >>>, one bit, 65535 ===== -/
theorem nx_and (a b : Nat) : nI a &&& nI b = nI (a &&& b) := by
  apply Int32.toBitVec_inj.1
  show BitVec.ofNat 32 a &&& BitVec.ofNat 32 b = BitVec.ofNat 32 (a &&& b)
  apply BitVec.eq_of_getLsbD_eq
  intro i hi
  simp [hi]
theorem nx_xor (a b : Nat) : nI a ^^^ nI b = nI (a ^^^ b) := by
  apply Int32.toBitVec_inj.1
  show BitVec.ofNat 32 a ^^^ BitVec.ofNat 32 b = BitVec.ofNat 32 (a ^^^ b)
  apply BitVec.eq_of_getLsbD_eq
  intro i hi
  simp [hi]
theorem nx_cnt : ∀ j : Fin 32, (UInt32.ofNat j.val &&& Int32.toUInt32 31).toNat % 32 = j.val := by decide +kernel
theorem nx_ush {k j : Nat} (hk : k < 65536) (hj : j < 32) : ((nI k).toUInt32 >>> ((nI j).toUInt32 &&& Int32.toUInt32 31)).toInt32 = nI (k >>> j) := by
  have hs : k >>> j ≤ k := by
    rw [Nat.shiftRight_eq_div_pow]
    exact Nat.div_le_self _ _
  have e2 : UInt32.ofNat k >>> (UInt32.ofNat j &&& Int32.toUInt32 31) = UInt32.ofNat (k >>> j) := by
    apply UInt32.toNat_inj.1
    have h1 : (UInt32.ofNat k).toNat = k := Nat.mod_eq_of_lt (by omega)
    have h2 : (UInt32.ofNat (k >>> j)).toNat = k >>> j := Nat.mod_eq_of_lt (by omega)
    rw [UInt32.toNat_shiftRight, nx_cnt ⟨j, hj⟩, h1, h2]
  show (UInt32.ofNat k >>> (UInt32.ofNat j &&& Int32.toUInt32 31)).toInt32 = _
  rw [e2]
  rfl
theorem nx_bit {k j : Nat} (hk : k < 65536) (hj : j < 16) : (((nI k).toUInt32 >>> ((nI j).toUInt32 &&& Int32.toUInt32 31)).toInt32 &&& 1) = 0 ↔ k.testBit j = false := by
  rw [nx_ush hk (by omega)]
  show nI (k >>> j) &&& nI 1 = 0 ↔ _
  rw [nx_and, Nat.and_one_is_mod, ← nI_0, nI_eq (by omega) (by omega), Nat.testBit_eq_decide_div_mod_eq, Nat.shiftRight_eq_div_pow, decide_eq_false_iff_not]
  generalize k / 2 ^ j = z
  omega
theorem nx_mod (k : Nat) : nI k &&& 65535 = nI (k % 65536) := by
  show nI k &&& nI 65535 = _
  rw [nx_and, show (65535 : Nat) = 2 ^ 16 - 1 from rfl, Nat.and_two_pow_sub_one_eq_mod]
theorem nx_m16 {k : Nat} (h : k < 65536) : nI k &&& 65535 = nI k := by rw [nx_mod, Nat.mod_eq_of_lt h]
theorem nx_mask (x : Int32) : ∃ k, k < 65536 ∧ x &&& 65535 = nI k := by
  have e : x = nI x.toBitVec.toNat := by
    apply Int32.toBitVec_inj.1
    show x.toBitVec = BitVec.ofNat 32 x.toBitVec.toNat
    simp
  refine ⟨x.toBitVec.toNat % 65536, Nat.mod_lt _ (by omega), ?_⟩
  rw [← nx_mod, ← e]
/-! ===== Int32 as a set of bits: test, set ===== -/
def nf_M (m : Int32) : Nat := 4294967296 - m.toBitVec.toNat
theorem nf_sh : ∀ l, l < 32 → ((1 : Int32) <<< (nI l &&& 31)).toBitVec = BitVec.twoPow 32 l := by decide +kernel
theorem nf_sl : ∀ l, l < 32 → (((nI l).toUInt32 &&& Int32.toUInt32 31).toBitVec % 32).toNat = l := by decide +kernel
theorem nf_tp : ∀ l, l < 32 → BitVec.twoPow 32 l ≠ 0#32 := by decide +kernel
theorem nf_bit (m : Int32) (l : Nat) (hl : l < 32) : ((m.toUInt32 >>> ((nI l).toUInt32 &&& Int32.toUInt32 31)).toInt32 &&& 1) = 0 ↔ (m &&& ((1 : Int32) <<< (nI l &&& 31))) = 0 := by
  have e : ((m.toUInt32 >>> ((nI l).toUInt32 &&& Int32.toUInt32 31)).toInt32).toBitVec = m.toBitVec >>> l := by
    show m.toBitVec >>> (((nI l).toUInt32 &&& Int32.toUInt32 31).toBitVec % 32) = m.toBitVec >>> l
    rw [BitVec.ushiftRight_eq', nf_sl l hl]
  rw [← Int32.toBitVec_inj, ← Int32.toBitVec_inj, Int32.toBitVec_and, Int32.toBitVec_and, nf_sh l hl, e, BitVec.and_twoPow]
  show (m.toBitVec >>> l &&& 1#32) = 0#32 ↔ _ = 0#32
  rw [BitVec.and_one_eq_setWidth_ofBool_getLsbD, BitVec.getLsbD_ushiftRight, Nat.add_zero]
  cases hb : m.toBitVec.getLsbD l
  · exact ⟨fun _ => by simp, fun _ => by decide⟩
  · exact ⟨fun z => absurd z (by decide), fun z => absurd ((if_pos rfl).symm.trans z) (nf_tp l hl)⟩
theorem nf_gr (m k : Int32) (h : m &&& k = 0) (hk : k ≠ 0) : nf_M (m ||| k) < nf_M m := by
  have hm := m.toBitVec.isLt
  have hm' := (m ||| k).toBitVec.isLt
  have h1 : m.toBitVec.toNat ≤ (m ||| k).toBitVec.toNat := by
    rw [Int32.toBitVec_or, BitVec.toNat_or]
    exact Nat.left_le_or
  have h2 : m.toBitVec.toNat ≠ (m ||| k).toBitVec.toNat := by
    intro e
    have e2 : m = m ||| k := Int32.toBitVec_inj.mp (BitVec.eq_of_toNat_eq e)
    apply hk
    apply Int32.toBitVec_inj.mp
    show k.toBitVec = 0#32
    apply BitVec.eq_of_getLsbD_eq
    intro i hi
    have a : m.toBitVec.getLsbD i = (m.toBitVec.getLsbD i || k.toBitVec.getLsbD i) := by rw [← BitVec.getLsbD_or, ← Int32.toBitVec_or, ← e2]
    have b : (m.toBitVec.getLsbD i && k.toBitVec.getLsbD i) = false := by
      rw [← BitVec.getLsbD_and, ← Int32.toBitVec_and, h]
      exact BitVec.getLsbD_zero
    rw [BitVec.getLsbD_zero]
    revert a b
    cases m.toBitVec.getLsbD i <;> cases k.toBitVec.getLsbD i <;> simp
  unfold nf_M
  omega
/-! ===== a byte read unsigned ===== -/
theorem bp_b (x : Int32) : x.toInt8.toInt32 &&& 255 = x &&& 255 := by
  apply Int32.toBitVec_inj.mp
  rw [Int32.toBitVec_and, Int32.toBitVec_and, Int8.toBitVec_toInt32, Int32.toBitVec_toInt8]
  apply BitVec.eq_of_getLsbD_eq
  intro i hi
  rw [BitVec.getLsbD_and, BitVec.getLsbD_and]
  have hm : ∀ i < 32, 8 ≤ i → (255 : Int32).toBitVec.getLsbD i = false := by decide
  rcases Nat.lt_or_ge i 8 with z | z
  · rw [BitVec.getLsbD_signExtend, BitVec.getLsbD_signExtend, if_pos z, if_pos hi]
    simp only [z, hi, decide_true, Bool.true_and]
  · rw [hm i hi z]; simp
/-! ===== the char cast and 65535 ===== -/
theorem em_w (v : Int32) : ∃ w : Nat, w < 65536 ∧ (v.toUInt32 % 65536).toInt32 = nI w ∧ v &&& 65535 = nI w := by
  have hr := lw_u16_r v
  have h0 : (0 : Int32).toInt = 0 := by decide
  obtain ⟨w, h1, h2⟩ := nI_of (x := lw_u16 v) (by rw [Int32.lt_iff_toInt_lt]; omega)
  have h3 : (v.toUInt32 % 65536).toInt32 = nI w := h2
  rw [h2, nI_toInt h1] at hr
  exact ⟨w, by omega, h3, by rw [← lg_i2c_mask, ← lg_i2c_nf, h3]⟩
/-! ===== Int64 as a set of bits: test, set, clear ===== -/
theorem ts_nf {x : Bool} (h : ¬ x = false) : x = true := by cases x <;> first | rfl | exact absurd rfl h
theorem ts_nt {x : Bool} (h : ¬ x = true) : x = false := by cases x <;> first | rfl | exact absurd rfl h
theorem ts_bit {w : Int64} {s : UInt64} {j : Nat} (hj : j < 64) (hs : s.toNat = j) : ((w.toUInt64 >>> s).toInt64 &&& 1) = 0 ↔ w.toBitVec.getLsbD j = false := by
  have e : (w.toUInt64 >>> s).toInt64.toBitVec = w.toBitVec >>> j := by
    apply BitVec.eq_of_toNat_eq
    show (w.toUInt64 >>> s).toNat = _
    rw [UInt64.toNat_shiftRight, hs, Nat.mod_eq_of_lt hj, BitVec.toNat_ushiftRight]
    rfl
  rw [← Int64.toBitVec_inj, Int64.toBitVec_and, e]
  show w.toBitVec >>> j &&& 1#64 = 0#64 ↔ _
  constructor
  · intro h
    have t := congrArg (fun x => x.getLsbD 0) h
    simpa using t
  · intro h
    apply BitVec.eq_of_getLsbD_eq
    intro i hi
    cases i with
    | zero => simp [h]
    | succ i => simp
theorem ts_or {w m : Int64} {j : Nat} (hj : j < 64) (hm : m.toBitVec = BitVec.twoPow 64 j) : (w ||| m) = w ↔ w.toBitVec.getLsbD j = true := by
  rw [← Int64.toBitVec_inj, Int64.toBitVec_or, hm]
  constructor
  · intro h
    have t := congrArg (fun x => x.getLsbD j) h
    simp only [BitVec.getLsbD_or, BitVec.getLsbD_twoPow] at t
    simpa [hj] using t.symm
  · intro h
    apply BitVec.eq_of_getLsbD_eq
    intro i hi
    rw [BitVec.getLsbD_or, BitVec.getLsbD_twoPow]
    by_cases e : j = i
    · subst e; rw [h, Bool.true_or]
    · simp [e]
theorem ts_and {w m : Int64} {j : Nat} (hj : j < 64) (hm : m.toBitVec = BitVec.twoPow 64 j) : (w &&& (m ^^^ (-1))) = w ↔ w.toBitVec.getLsbD j = false := by
  have ha : (-1 : Int64).toBitVec = BitVec.allOnes 64 := by decide
  rw [← Int64.toBitVec_inj, Int64.toBitVec_and, Int64.toBitVec_xor, hm, ha]
  constructor
  · intro h
    have t := congrArg (fun x => x.getLsbD j) h
    simp only [BitVec.getLsbD_and, BitVec.getLsbD_xor, BitVec.getLsbD_twoPow, BitVec.getLsbD_allOnes] at t
    simpa [hj] using t.symm
  · intro h
    apply BitVec.eq_of_getLsbD_eq
    intro i hi
    rw [BitVec.getLsbD_and, BitVec.getLsbD_xor, BitVec.getLsbD_twoPow, BitVec.getLsbD_allOnes]
    by_cases e : j = i
    · subst e; rw [h, Bool.false_and]
    · simp [e, hi]
/-! ===== lN n to 2^64: shifts, and, or, masks, one bit ===== -/
theorem wb_tb (n : Nat) : (lN n).toBitVec = BitVec.ofNat 64 n := rfl
theorem wb_inj {a b : Int64} (h : a.toBitVec = b.toBitVec) : a = b := Int64.toBitVec_inj.mp h
theorem wb_tn {n : Nat} (h : n < 2 ^ 64) : (lN n).toBitVec.toNat = n := by rw [wb_tb, BitVec.toNat_ofNat, Nat.mod_eq_of_lt h]
theorem wb_of (x : Int64) : ∃ n, n < 2 ^ 64 ∧ x = lN n := ⟨x.toBitVec.toNat, x.toBitVec.isLt, wb_inj (by rw [wb_tb]; simp)⟩
theorem wb_of32 (x : Int32) : ∃ n, n < 2 ^ 32 ∧ x = nI n := ⟨x.toBitVec.toNat, x.toBitVec.isLt, Int32.toBitVec_inj.mp (by show _ = BitVec.ofNat 32 _; simp)⟩
theorem wb_c : ∀ k, k < 64 → ((nI k).toInt64 &&& 63) = lN k := by decide +kernel
theorem wb_cu : ∀ k, k < 64 → ((nI k).toInt64.toUInt64 &&& Int64.toUInt64 63) = UInt64.ofNat k := by decide +kernel
theorem wb_sm : ∀ k, k < 64 → (BitVec.ofNat 64 k).smod 64 = BitVec.ofNat 64 k := by decide +kernel
theorem wb_pw {a b : Nat} (h : a ≤ b) : 2 ^ b = 2 ^ a * 2 ^ (b - a) := by rw [← Nat.pow_add]; congr 1; omega
theorem wb_lt2 {a b : Nat} (h : a < b) : 2 ^ a < 2 ^ b := Nat.pow_lt_pow_right (by decide) h
theorem wb_mod (n : Nat) : lN n = lN (n % 2 ^ 64) := wb_inj (by rw [wb_tb, wb_tb]; apply BitVec.eq_of_toNat_eq; rw [BitVec.toNat_ofNat, BitVec.toNat_ofNat, Nat.mod_mod])
theorem wb_shr {n k : Nat} (hn : n < 2 ^ 64) (hk : k < 64) : ((lN n).toUInt64 >>> ((nI k).toInt64.toUInt64 &&& Int64.toUInt64 63)).toInt64 = lN (n / 2 ^ k) := by
  rw [wb_cu k hk]
  apply wb_inj
  apply BitVec.eq_of_toNat_eq
  show ((lN n).toUInt64 >>> UInt64.ofNat k).toNat = (BitVec.ofNat 64 _).toNat
  have h1 : (UInt64.ofNat k).toNat = k := by
    show (BitVec.ofNat 64 k).toNat = k
    rw [BitVec.toNat_ofNat, Nat.mod_eq_of_lt (by omega)]
  have h2 : (lN n).toUInt64.toNat = n := wb_tn hn
  rw [UInt64.toNat_shiftRight, h1, h2, Nat.mod_eq_of_lt hk, Nat.shiftRight_eq_div_pow, BitVec.toNat_ofNat, Nat.mod_eq_of_lt (Nat.lt_of_le_of_lt (Nat.div_le_self _ _) hn)]
theorem wb_shl (n : Nat) {k : Nat} (hk : k < 64) : lN n <<< ((nI k).toInt64 &&& 63) = lN (n * 2 ^ k) := by
  rw [wb_c k hk]
  apply wb_inj
  rw [Int64.toBitVec_shiftLeft, wb_tb, wb_tb, wb_tb, wb_sm k hk]
  apply BitVec.eq_of_toNat_eq
  rw [BitVec.shiftLeft_eq', BitVec.toNat_shiftLeft, BitVec.toNat_ofNat, BitVec.toNat_ofNat, BitVec.toNat_ofNat, Nat.mod_eq_of_lt (show k < 2 ^ 64 by omega), Nat.shiftLeft_eq, Nat.mul_mod, Nat.mod_mod, ← Nat.mul_mod]
theorem wb_and {a b : Nat} (ha : a < 2 ^ 64) (hb : b < 2 ^ 64) : lN a &&& lN b = lN (a &&& b) := by
  apply wb_inj
  rw [Int64.toBitVec_and, wb_tb, wb_tb, wb_tb]
  apply BitVec.eq_of_toNat_eq
  rw [BitVec.toNat_and, BitVec.toNat_ofNat, BitVec.toNat_ofNat, BitVec.toNat_ofNat, Nat.mod_eq_of_lt ha, Nat.mod_eq_of_lt hb, Nat.mod_eq_of_lt (Nat.and_lt_two_pow _ hb)]
theorem wb_or {a b : Nat} (ha : a < 2 ^ 64) (hb : b < 2 ^ 64) : lN a ||| lN b = lN (a ||| b) := by
  apply wb_inj
  rw [Int64.toBitVec_or, wb_tb, wb_tb, wb_tb]
  apply BitVec.eq_of_toNat_eq
  rw [BitVec.toNat_or, BitVec.toNat_ofNat, BitVec.toNat_ofNat, BitVec.toNat_ofNat, Nat.mod_eq_of_lt ha, Nat.mod_eq_of_lt hb, Nat.mod_eq_of_lt (Nat.or_lt_two_pow ha hb)]
theorem wb_mask {n k : Nat} (hn : n < 2 ^ 64) (hk : k < 64) : lN n &&& lN (2 ^ k - 1) = lN (n % 2 ^ k) := by
  rw [wb_and hn (by have := wb_lt2 hk; omega), Nat.and_two_pow_sub_one_eq_mod]
theorem wb_a1 {n : Nat} (hn : n < 2 ^ 64) : lN n &&& 1 = lN (n % 2) := wb_mask (k := 1) hn (by decide)
theorem wb_bit {n k : Nat} (hn : n < 2 ^ 64) (hk : k < 64) : ((lN n).toUInt64 >>> ((nI k).toInt64.toUInt64 &&& Int64.toUInt64 63)).toInt64 &&& 1 = lN (n / 2 ^ k % 2) := by
  rw [wb_shr hn hk, wb_a1 (Nat.lt_of_le_of_lt (Nat.div_le_self _ _) hn)]
theorem wb_xor {q k : Nat} (hk : k < 63) (h : 2 ^ k ≤ q) (h2 : q < 2 ^ (k + 1)) : lN q ^^^ lN (2 ^ k) = lN (q - 2 ^ k) := by
  obtain ⟨r, rfl⟩ : ∃ r, q = 2 ^ k + r := ⟨q - 2 ^ k, by omega⟩
  have hr : r < 2 ^ k := by rw [Nat.pow_succ] at h2; omega
  have hx : (2 ^ k + r) ^^^ 2 ^ k = r := by
    apply Nat.eq_of_testBit_eq
    intro i
    rw [Nat.testBit_xor, Nat.testBit_two_pow]
    rcases Nat.lt_trichotomy i k with h | h | h
    · rw [Nat.testBit_two_pow_add_gt h]
      simp [show ¬ k = i by omega]
    · subst h
      rw [Nat.testBit_two_pow_add_eq]
      simp
    · have a1 : 2 ^ (k + 1) ≤ 2 ^ i := Nat.pow_le_pow_right (by decide) h
      rw [Nat.testBit_lt_two_pow (show 2 ^ k + r < 2 ^ i by omega), Nat.testBit_lt_two_pow (show r < 2 ^ i by omega)]
      simp [show ¬ k = i by omega]
  have b1 := wb_lt2 (show k + 1 < 64 by omega)
  have b2 := wb_lt2 (show k < 64 by omega)
  apply wb_inj
  rw [Int64.toBitVec_xor, wb_tb, wb_tb, wb_tb]
  apply BitVec.eq_of_toNat_eq
  rw [BitVec.toNat_xor, BitVec.toNat_ofNat, BitVec.toNat_ofNat, BitVec.toNat_ofNat, Nat.mod_eq_of_lt (by omega : 2 ^ k + r < 2 ^ 64), Nat.mod_eq_of_lt b2, hx, Nat.add_sub_cancel_left, Nat.mod_eq_of_lt (by omega)]
/-! ===== lN: masks, 'or' of parts that don't overlap is a sum ===== -/
theorem u_tn {n : Nat} (h : n < 2 ^ 64) : (UInt64.ofNat n).toNat = n := Nat.mod_eq_of_lt h
theorem g_and {a b c : Nat} (ha : a < 2 ^ 64) (hb : b < 2 ^ 64) (hc : a &&& b = c) : lN a &&& lN b = lN c := by
  subst hc
  have h : UInt64.ofNat a &&& UInt64.ofNat b = UInt64.ofNat (a &&& b) := UInt64.toNat_inj.mp (by rw [UInt64.toNat_and, u_tn ha, u_tn hb, u_tn (Nat.and_lt_two_pow a hb)])
  have h2 := congrArg UInt64.toInt64 h
  exact h2
theorem g_and1 {a : Nat} (ha : a < 2 ^ 64) : lN a &&& 1 = lN (a % 2) := g_and (b := 1) ha (by decide) (Nat.and_two_pow_sub_one_eq_mod a 1)
theorem g_mask {a s p : Nat} (hp : 2 ^ s = p) (hs : s < 64) (ha : a < 2 ^ 64) : lN a &&& lN (p - 1) = lN (a % p) := by
  subst hp
  have := Nat.pow_lt_pow_right (show 1 < 2 by decide) hs
  exact g_and ha (by omega) (Nat.and_two_pow_sub_one_eq_mod a s)
theorem g_or {k p a b : Nat} (hp : 2 ^ k = p) (ha : a < p) (h : b * p + a < 2 ^ 64) : lN (b * p) ||| lN a = lN (b * p + a) := by
  subst hp
  have h1 : b * 2 ^ k ||| a = b * 2 ^ k + a := by rw [← Nat.shiftLeft_eq, Nat.shiftLeft_add_eq_or_of_lt ha]
  have h3 : UInt64.ofNat (b * 2 ^ k) ||| UInt64.ofNat a = UInt64.ofNat (b * 2 ^ k + a) := UInt64.toNat_inj.mp (by rw [UInt64.toNat_or, u_tn (by omega), u_tn (by omega), u_tn h, h1])
  have h2 := congrArg UInt64.toInt64 h3
  exact h2
theorem g_or' {k p a b : Nat} (hp : 2 ^ k = p) (ha : a < p) (h : a + b * p < 2 ^ 64) : lN a ||| lN (b * p) = lN (a + b * p) := by
  rw [Int64.or_comm, g_or hp ha (by omega), Nat.add_comm]
theorem g_ushr {a k p : Nat} {y : UInt64} (hy : y = UInt64.ofNat k) (hk : k < 64) (hp : 2 ^ k = p) (ha : a < 2 ^ 64) : ((lN a).toUInt64 >>> y).toInt64 = lN (a / p) := by
  subst hy hp
  have h : UInt64.ofNat a >>> UInt64.ofNat k = UInt64.ofNat (a / 2 ^ k) := UInt64.toNat_inj.mp (by rw [UInt64.toNat_shiftRight, u_tn ha, u_tn (by omega), u_tn (Nat.lt_of_le_of_lt (Nat.div_le_self _ _) ha), Nat.mod_eq_of_lt hk, Nat.shiftRight_eq_div_pow])
  have h2 := congrArg UInt64.toInt64 h
  exact h2
theorem g_shl {a k p : Nat} {y : Int64} (hy : y.toBitVec.smod 64 = BitVec.ofNat 64 k) (hk : k < 64) (hp : 2 ^ k = p) (ha : a < 2 ^ 64) : lN a <<< y = lN (a * p) := by
  subst hp
  apply Int64.toBitVec_inj.mp
  rw [Int64.toBitVec_shiftLeft, hy]
  apply BitVec.eq_of_toNat_eq
  have hb : (lN a).toBitVec.toNat = a := Nat.mod_eq_of_lt ha
  have hk' : (BitVec.ofNat 64 k).toNat = k := Nat.mod_eq_of_lt (by omega)
  have h : ((lN a).toBitVec <<< BitVec.ofNat 64 k).toNat = (a * 2 ^ k) % 2 ^ 64 := by simp only [BitVec.shiftLeft_eq', BitVec.toNat_shiftLeft, hb, hk', Nat.shiftLeft_eq]
  exact h
/-! ===== lN to 2^62 under >> and >>> ===== -/
theorem pf_lI {a : Nat} (h : a < 2 ^ 63) : (lN a).toInt = (a : Int) := lg_ofNat_toInt h
theorem pf_shr {a d : Nat} {D : Int64} (hD : (D.toBitVec.smod 64).toNat = d) (h : a < 2 ^ 62) : lN a >>> D = lN (a / 2 ^ d) := by
  have hd : a / 2 ^ d ≤ a := Nat.div_le_self _ _
  apply Int64.toInt_inj.mp
  have e : (lN a >>> D).toInt = (lN a).toInt >>> d := by
    rw [← hD]
    exact BitVec.toInt_sshiftRight ..
  rw [e, Int.shiftRight_eq_div_pow, pf_lI (by omega), pf_lI (by omega)]
  rfl
theorem pf_ushr {a d : Nat} {D : UInt64} (hD : D.toNat % 64 = d) (h : a < 2 ^ 62) : ((lN a).toUInt64 >>> D).toInt64 = lN (a / 2 ^ d) := by
  have hd : a / 2 ^ d ≤ a := Nat.div_le_self _ _
  have e : (lN a).toUInt64 >>> D = UInt64.ofNat (a / 2 ^ d) := UInt64.toNat_inj.mp (by
    rw [UInt64.toNat_shiftRight, hD, Nat.shiftRight_eq_div_pow, UInt64.toNat_ofNat']
    show (UInt64.ofNat a).toNat / 2 ^ d = _
    rw [UInt64.toNat_ofNat', Nat.mod_eq_of_lt (by omega), Nat.mod_eq_of_lt (by omega)])
  rw [e]
  rfl
theorem pf_andw (x : Int64) : ∃ m, m < 2 ^ 32 ∧ x &&& 4294967295 = lN m := ⟨x.toBitVec.toNat % 2 ^ 32, Nat.mod_lt _ (by decide), Int64.toBitVec_inj.mp (BitVec.eq_of_toNat_eq (by
  show (x.toBitVec &&& 4294967295#64).toNat = (BitVec.ofNat 64 (x.toBitVec.toNat % 2 ^ 32)).toNat
  rw [BitVec.toNat_and, show (4294967295#64).toNat = 2 ^ 32 - 1 from by decide, Nat.and_two_pow_sub_one_eq_mod, BitVec.toNat_ofNat]
  omega))⟩
/-! ===== Int64 as an unsigned number: uN x ===== -/
def uN (x : Int64) : Nat := x.toUInt64.toNat
theorem uN_lt (x : Int64) : uN x < 18446744073709551616 := x.toUInt64.toNat_lt
theorem uN_inj {x y : Int64} (h : uN x = uN y) : x = y := congrArg UInt64.toInt64 (UInt64.toNat_inj.mp h)
theorem uN_add (x y : Int64) : uN (x + y) = (uN x + uN y) % 18446744073709551616 := by
  show (x.toUInt64 + y.toUInt64).toNat = _
  exact UInt64.toNat_add _ _
theorem uN_mul (x y : Int64) : uN (x * y) = (uN x * uN y) % 18446744073709551616 := by
  show (x.toUInt64 * y.toUInt64).toNat = _
  exact UInt64.toNat_mul _ _
theorem uN_shl (x : Int64) : uN (x <<< ((1 : Int32).toInt64 &&& 63)) = (2 * uN x) % 18446744073709551616 := by
  have h : (((1 : Int32).toInt64 &&& 63).toBitVec.smod 64).toNat = 1 := by decide
  show (x.toBitVec <<< (((1 : Int32).toInt64 &&& 63).toBitVec.smod 64).toNat).toNat = _
  rw [h, BitVec.toNat_shiftLeft, Nat.shiftLeft_eq, Nat.mul_comm]
  rfl
theorem uN_shr (x : Int64) (s : UInt64) : uN (x.toUInt64 >>> s).toInt64 = uN x / 2 ^ (s.toNat % 64) := by
  show (x.toUInt64 >>> s).toNat = _
  rw [UInt64.toNat_shiftRight, Nat.shiftRight_eq_div_pow]
  rfl
theorem uN_s32 (x : Int64) : uN (x.toUInt64 >>> ((32 : Int32).toInt64.toUInt64 &&& Int64.toUInt64 63)).toInt64 = uN x / 4294967296 := by
  have h : ((32 : Int32).toInt64.toUInt64 &&& Int64.toUInt64 63).toNat % 64 = 32 := by decide
  rw [uN_shr, h]
theorem uN_s63 (x : Int64) : uN (x.toUInt64 >>> ((63 : Int32).toInt64.toUInt64 &&& Int64.toUInt64 63)).toInt64 = uN x / 9223372036854775808 := by
  have h : ((63 : Int32).toInt64.toUInt64 &&& Int64.toUInt64 63).toNat % 64 = 63 := by decide
  rw [uN_shr, h]
theorem uN_lo (x : Int64) : uN (x &&& 4294967295) = uN x % 4294967296 := by
  show (x.toUInt64 &&& Int64.toUInt64 4294967295).toNat = _
  rw [UInt64.toNat_and]
  exact Nat.and_two_pow_sub_one_eq_mod _ 32
theorem uN_bit (x : Int64) : (x &&& 1) = 0 ↔ uN x % 2 = 0 := by
  have h : uN (x &&& 1) = uN x % 2 := by
    show (x.toUInt64 &&& Int64.toUInt64 1).toNat = _
    rw [UInt64.toNat_and]
    exact Nat.and_two_pow_sub_one_eq_mod _ 1
  rw [← h]
  exact ⟨fun z => by rw [z]; rfl, fun z => uN_inj (z.trans rfl)⟩
theorem uN_or {x y : Int64} (hy : uN y < 2) : uN ((x <<< ((1 : Int32).toInt64 &&& 63)) ||| y) = (2 * uN x) % 18446744073709551616 + uN y := by
  have h1 : uN ((x <<< ((1 : Int32).toInt64 &&& 63)) ||| y) = uN (x <<< ((1 : Int32).toInt64 &&& 63)) ||| uN y := UInt64.toNat_or _ _
  have h2 : (2 * uN x) % 18446744073709551616 = 2 ^ 1 * (uN x % 9223372036854775808) := by omega
  rw [h1, uN_shl, h2]
  exact (Nat.two_pow_add_eq_or_of_lt (i := 1) hy _).symm
theorem nat_xor {a : Nat} (h : a < 18446744073709551616) : a ^^^ 2 ^ 63 = (a + 9223372036854775808) % 18446744073709551616 := by
  have h1 : (a ^^^ 2 ^ 63) % 2 ^ 63 = a % 2 ^ 63 := by rw [Nat.xor_mod_two_pow, Nat.mod_self, Nat.xor_zero]
  have h2 : (a ^^^ 2 ^ 63) / 2 ^ 63 = (a / 2 ^ 63) ^^^ 1 := by rw [Nat.xor_div_two_pow, Nat.div_self (Nat.two_pow_pos 63)]
  have h3 : a / 2 ^ 63 = 0 ∨ a / 2 ^ 63 = 1 := by omega
  generalize a ^^^ 2 ^ 63 = t at h1 h2
  rcases h3 with h3 | h3
  · rw [h3] at h2
    have h2 : t / 2 ^ 63 = 1 := h2
    omega
  · rw [h3] at h2
    have h2 : t / 2 ^ 63 = 0 := h2
    omega
theorem uN_xor (x : Int64) : uN (x ^^^ (-9223372036854775808)) = (uN x + 9223372036854775808) % 18446744073709551616 := by
  rw [← nat_xor (uN_lt x)]
  exact UInt64.toNat_xor _ _
theorem uN_int (x : Int64) : x.toInt = if 2 * uN x < 18446744073709551616 then (uN x : Int) else (uN x : Int) - 18446744073709551616 := BitVec.toInt_eq_toNat_cond _
theorem uN_le (x y : Int64) : (x ^^^ (-9223372036854775808)) ≤ (y ^^^ (-9223372036854775808)) ↔ uN x ≤ uN y := by
  have hx := uN_lt x
  have hy := uN_lt y
  rw [Int64.le_iff_toInt_le, uN_int, uN_int, uN_xor, uN_xor]
  omega
theorem uN_sk (x : Int64) {k : Nat} (hk : k < 64) : uN (x.toUInt64 >>> ((nI k).toInt64.toUInt64 &&& Int64.toUInt64 63)).toInt64 = uN x / 2 ^ k := by
  have h : ((nI k).toInt64.toUInt64 &&& Int64.toUInt64 63).toNat % 64 = k := by
    rw [nI_l (by omega), UInt64.toNat_and]
    have e : (lN k).toUInt64.toNat = k % 2 ^ 64 := rfl
    have e2 : (Int64.toUInt64 63).toNat = 2 ^ 6 - 1 := by decide
    rw [e, e2, Nat.and_two_pow_sub_one_eq_mod]
    omega
  rw [uN_shr, h]
/-! ===== unsigned comparison by xor with the least ===== -/
theorem lN_bv (n : Nat) : (lN n).toBitVec = BitVec.ofNat 64 n := rfl
theorem lN_nat {n : Nat} (h : n < 2 ^ 64) : (lN n).toBitVec.toNat = n := by rw [lN_bv, BitVec.toNat_ofNat]; exact Nat.mod_eq_of_lt h
theorem lN_xor (a b : Nat) : lN a ^^^ lN b = lN (a ^^^ b) := by
  apply Int64.toBitVec_inj.mp; rw [Int64.toBitVec_xor, lN_bv, lN_bv, lN_bv]; apply BitVec.eq_of_getLsbD_eq; intro i hi; simp [BitVec.getLsbD_ofNat, Nat.testBit_xor, hi]
theorem lN_ti {m : Nat} (h : m < 2 ^ 64) : (lN m).toInt = if m < 2 ^ 63 then (m : Int) else (m : Int) - 2 ^ 64 := by
  have c := BitVec.toInt_eq_toNat_cond (lN m).toBitVec
  rw [lN_nat h] at c
  show (lN m).toBitVec.toInt = _
  rw [c]
  split <;> split <;> omega
theorem xor63 {x : Nat} (h : x < 2 ^ 63) : x ^^^ 2 ^ 63 = 2 ^ 63 + x := by
  apply Nat.eq_of_testBit_eq
  intro i
  rw [Nat.testBit_xor, Nat.testBit_two_pow]
  rcases Nat.lt_trichotomy i 63 with z | z | z
  · rw [Nat.testBit_two_pow_add_gt z, decide_eq_false (by omega)]; simp
  · subst z; rw [Nat.testBit_two_pow_add_eq]; simp
  · have hp : 2 ^ 64 ≤ 2 ^ i := Nat.pow_le_pow_right (by decide) z
    rw [Nat.testBit_lt_two_pow (show x < 2 ^ i by omega), Nat.testBit_lt_two_pow (show 2 ^ 63 + x < 2 ^ i by omega), decide_eq_false (by omega)]; rfl
theorem xorS {a : Nat} (h : a < 2 ^ 64) : (lN a ^^^ (-9223372036854775808)).toInt = (a : Int) - 2 ^ 63 := by
  rw [show (-9223372036854775808 : Int64) = lN (2 ^ 63) from by decide +kernel, lN_xor]
  rcases Nat.lt_or_ge a (2 ^ 63) with z | z
  · rw [xor63 z, lN_ti (by omega), if_neg (by omega)]; omega
  · obtain ⟨x, rfl⟩ : ∃ x, a = 2 ^ 63 + x := ⟨a - 2 ^ 63, by omega⟩
    rw [← xor63 (by omega), Nat.xor_assoc, Nat.xor_self, Nat.xor_zero, lN_ti (by omega), if_pos (by omega), xor63 (by omega)]; omega
theorem ultL {a b : Nat} (ha : a < 2 ^ 64) (hb : b < 2 ^ 64) : ((lN b ^^^ (-9223372036854775808)) ≤ (lN a ^^^ (-9223372036854775808))) ↔ b ≤ a := by
  rw [Int64.le_iff_toInt_le, xorS ha, xorS hb]; omega
/-! ===== Int64 masks of n low bits ===== -/
theorem cr_bits (W U M : BitVec 64) : ((W &&& U) &&& (U &&& (M ^^^ BitVec.allOnes 64))) = 0#64 ↔ (W &&& U) &&& M = W &&& U := by
  constructor
  · intro h
    apply BitVec.eq_of_getLsbD_eq
    intro i hi
    have e := congrArg (fun x => BitVec.getLsbD x i) h
    simp only [BitVec.getLsbD_and, BitVec.getLsbD_xor, BitVec.getLsbD_allOnes, BitVec.getLsbD_zero, hi, decide_true] at e ⊢
    revert e
    cases W.getLsbD i <;> cases U.getLsbD i <;> cases M.getLsbD i <;> decide
  · intro h
    apply BitVec.eq_of_getLsbD_eq
    intro i hi
    have e := congrArg (fun x => BitVec.getLsbD x i) h
    simp only [BitVec.getLsbD_and, BitVec.getLsbD_xor, BitVec.getLsbD_allOnes, BitVec.getLsbD_zero, hi, decide_true] at e ⊢
    revert e
    cases W.getLsbD i <;> cases U.getLsbD i <;> cases M.getLsbD i <;> decide
theorem cr_mask (w U m : Int64) (n : Nat) (hm : m.toBitVec.toNat = 2 ^ n - 1) : ((w &&& U) &&& (U &&& (m ^^^ (-1)))) = 0 ↔ (w &&& U).toBitVec.toNat < 2 ^ n := by
  have e0 : (-1 : Int64).toBitVec = BitVec.allOnes 64 := by decide
  have z0 : (0 : Int64).toBitVec = 0#64 := by decide
  rw [← Int64.toBitVec_inj, z0, Int64.toBitVec_and, Int64.toBitVec_and, Int64.toBitVec_and, Int64.toBitVec_xor, e0, cr_bits]
  generalize w.toBitVec &&& U.toBitVec = T
  rw [← BitVec.toNat_inj, BitVec.toNat_and, hm, Nat.and_two_pow_sub_one_eq_mod]
  constructor
  · intro h
    have t := Nat.mod_lt T.toNat (Nat.two_pow_pos n)
    rw [h] at t
    exact t
  · exact Nat.mod_eq_of_lt
theorem cr_shr (t : Int64) (x : UInt64) (n : Nat) (hx : x.toNat % 64 = n) : (t.toUInt64 >>> x).toInt64 = 0 ↔ t.toBitVec.toNat < 2 ^ n := by
  rw [← Int64.toBitVec_inj, ← BitVec.toNat_inj]
  show (t.toUInt64 >>> x).toNat = 0 ↔ t.toUInt64.toNat < 2 ^ n
  rw [UInt64.toNat_shiftRight, hx, Nat.shiftRight_eq_div_pow]
  constructor
  · intro h
    have d : t.toUInt64.toNat / 2 ^ n < 1 := by
      rw [h]
      decide
    have e := (Nat.div_lt_iff_lt_mul (Nat.two_pow_pos n)).mp d
    rw [Nat.one_mul] at e
    exact e
  · exact Nat.div_eq_of_lt
theorem cr_amt (s : Int64) : ∃ n, n < 64 ∧ s &&& 63 = lN n ∧ (s.toUInt64 &&& Int64.toUInt64 63).toNat % 64 = n := by
  have e : (s.toUInt64 &&& Int64.toUInt64 63).toNat = s.toUInt64.toNat % 2 ^ 6 := by
    rw [UInt64.toNat_and, show (Int64.toUInt64 63).toNat = 2 ^ 6 - 1 from by decide, Nat.and_two_pow_sub_one_eq_mod]
  refine ⟨s.toUInt64.toNat % 2 ^ 6, by omega, ?_, by omega⟩
  rw [← Int64.toBitVec_inj, ← BitVec.toNat_inj]
  show (s.toUInt64 &&& Int64.toUInt64 63).toNat = (BitVec.ofNat 64 (s.toUInt64.toNat % 2 ^ 6)).toNat
  rw [e, BitVec.toNat_ofNat]
  omega
end
section
theorem fa_b8 : ∀ n, n < 128 → (nI n).toInt8.toInt32 = nI n := by decide +kernel
theorem fa_s16 : ∀ n, n < 512 → (nI n).toInt16.toInt32 = nI n := by decide +kernel
theorem fa_nb {n : Nat} (h : n < 128) : vp_nar .byte (nI n).toInt8.toInt32 = nI n := by rw [pk_vb]; exact fa_b8 n h
theorem fa_nb' {n : Nat} (h : n < 128) : vp_nar .byte (nI n) = nI n := by rw [vp_nar_byte]; exact fa_b8 n h
theorem fa_ns {n : Nat} (h : n < 512) : vp_nar .short (nI n).toInt16.toInt32 = nI n := by rw [pk_vs]; exact fa_s16 n h
theorem fa_ns' {n : Nat} (h : n < 512) : vp_nar .short (nI n) = nI n := by rw [vp_nar_short]; exact fa_s16 n h
theorem fa_mb : vp_nar .byte (-1) = -1 := by rw [vp_nar_byte]; decide
theorem fa_ms : vp_nar .short (-1) = -1 := by rw [vp_nar_short]; decide
theorem fa_ms' : vp_nar .short ((-1 : Int32).toInt16.toInt32) = -1 := by rw [pk_vs]; decide
theorem fa_b0 : vp_nar .boolean 0 = 0 := rfl
theorem fa_b1 : vp_nar .boolean 1 = 1 := rfl
theorem fa_inj {x : Int32} {n : Nat} (hn : n < 2 ^ 32) (h : x.toBitVec.toNat = n) : x = nI n := by
  apply Int32.toBitVec_inj.mp
  apply BitVec.eq_of_toNat_eq
  rw [h, pk_tn hn]
theorem fa_m1n {n : Nat} (h : n < 2 ^ 31) : nI n ≠ -1 := by
  intro e
  have h1 := nI_toInt h
  rw [e, show (-1 : Int32).toInt = -1 from by decide] at h1
  omega
theorem fa_m1l : (-1 : Int32) < 0 := by decide
theorem fa_upd {f : Nat → Int32} {k j : Nat} {x : Int32} : upd f k x j = if j = k then x else f j := rfl
theorem fa_updL {f : Nat → Int64} {k j : Nat} {x : Int64} : vp_updL f k x j = if j = k then x else f j := rfl
/-- a list's first number as a link -/
def fa_hd : List Nat → Int32
  | [] => -1
  | x :: _ => nI x
end
section
/-! the pure reading of a body -/
abbrev fb_Stk : Type := List (Nat × Nat × Nat)
abbrev fb_Con : Type := Nat → List (Nat × Int64)
/-- a varint's value after n bytes from s on -/
def fb_va (B : Nat → Int32) (s : Nat) : Nat → Int64
  | 0 => 0
  | n + 1 => fb_va B s n ||| (((B (s + n) &&& 127).toInt64) <<< ((7 * nI n).toInt64 &&& 63))
/-- plain bytes -/
def fb_ba (B : Nat → Int32) (s : Nat) : Nat → Int64
  | 0 => 0
  | n + 1 => fb_ba B s n ||| ((B (s + n)).toInt64 <<< ((8 * nI n).toInt64 &&& 63))
/-- a varint lies whole at s and ends at s', not beyond e -/
def fb_Vr (B : Nat → Int32) (s e s' : Nat) (a : Int64) : Prop :=
  ∃ n, n < 10 ∧ (∀ j, j < n → 128 ≤ B (s + j)) ∧ B (s + n) < 128 ∧ s' = s + n + 1 ∧ s' ≤ e ∧ a = fb_va B s (n + 1)
/-- n bytes of a varint are there, none of them its last -/
def fb_Pv (B : Nat → Int32) (s n : Nat) (a : Int64) : Prop :=
  n < 10 ∧ (∀ j, j < n → 128 ≤ B (s + j)) ∧ a = fb_va B s n
def fb_f (a : Int64) : Nat := a.toInt32.toBitVec.toNat / 8
def fb_w (a : Int64) : Nat := a.toInt32.toBitVec.toNat % 8
def fb_wk (k : Nat) : Nat := if k = 3 then 5 else if k = 5 then 1 else if k = 6 then 2 else 0
def fb_le (w : Nat) : Nat := if w = 5 then 4 else if w = 1 then 8 else 1
def fb_kn (en w : Nat) : Nat := if en ≠ 0 ∧ (w = fb_wk ((en - 1) / 4) ∨ (w = 2 ∧ (en - 1) % 2 = 1)) then en else 0
def fb_ky (sch : Nat → Nat) (ty : Nat) (a : Int64) : Nat := if fb_f a ≤ 15 then fb_kn (sch (ty * 16 + fb_f a)) (fb_w a) else 0
def fb_cv (k : Nat) (a : Int64) : Int64 :=
  if k = 0 ∨ k = 3 then a.toInt32.toInt64
  else if k = 1 then (if (a.toInt32 &&& 1) = 0 then (((a.toInt32.toUInt32 >>> ((1 : Int32).toUInt32 &&& Int32.toUInt32 31)).toInt32).toInt64) else ((((a.toInt32.toUInt32 >>> ((1 : Int32).toUInt32 &&& Int32.toUInt32 31)).toInt32) ^^^ (-1)).toInt64))
  else if k = 2 then (if a = 0 then 0 else 1) else a
def fb_mk : List (Nat × Int64) → Nat → List (Nat × Int64)
  | [], f => [(f, 0)]
  | p :: l, f => if p.1 = f then p :: l else p :: fb_mk l f
def fb_pt : List (Nat × Int64) → Nat → Int64 → List (Nat × Int64)
  | [], _, _ => []
  | p :: l, f, v => if p.1 = f then (f, v) :: l else p :: fb_pt l f v
def fb_up (C : fb_Con) (q : Nat) (l : List (Nat × Int64)) : fb_Con := fun z => if z = q then l else C z
def fb_ad (C : fb_Con) (q f rep : Nat) (v : Int64) : fb_Con := fb_up C q (if rep = 1 then C q ++ [(f, v)] else fb_pt (fb_mk (C q) f) f v)
def fb_ms (C : fb_Con) (q f : Nat) : fb_Con := fb_up C q (fb_mk (C q) f)
/-- a key lies whole at s -/
def fb_Key (B : Nat → Int32) (s e s1 : Nat) (a : Int64) : Prop :=
  s < e ∧ fb_Vr B s e s1 a ∧ fb_f a ≠ 0 ∧ (fb_w a = 0 ∨ fb_w a = 1 ∨ fb_w a = 2 ∨ fb_w a = 5) ∧ s1 + fb_le (fb_w a) ≤ e
/-- what an entry that isn't known skips -/
def fb_Sk (B : Nat → Int32) (e s1 w s' : Nat) : Prop :=
  (w = 0 ∧ ∃ b, fb_Vr B s1 e s' b) ∨ ((w = 1 ∨ w = 5) ∧ s' = s1 + fb_le w) ∨ (w = 2 ∧ ∃ s2 n, fb_Vr B s1 e s2 (lN n) ∧ s2 + n ≤ e ∧ s' = s2 + n)
/-- a single value -/
def fb_Sv (B : Nat → Int32) (e s1 w s' : Nat) (b : Int64) : Prop :=
  (w = 0 ∧ fb_Vr B s1 e s' b) ∨ ((w = 1 ∨ w = 5) ∧ s' = s1 + fb_le w ∧ b = fb_ba B s1 (fb_le w))
/-- one of packed values -/
def fb_El (B : Nat → Int32) (pe k s s' : Nat) (b : Int64) : Prop :=
  (k = 3 ∧ s' = s + 4 ∧ b = fb_ba B s 4) ∨ (k = 5 ∧ s' = s + 8 ∧ b = fb_ba B s 8) ∨ (k ≠ 3 ∧ k ≠ 5 ∧ fb_Vr B s pe s' b)
abbrev fb_RT : Type := Nat → fb_Stk → Option (Nat × Nat × Nat) → fb_Con → Prop
def fb_r0 (sz : Nat) (R : fb_RT) : Prop := R 0 [(sz, 0, 0)] none (fun _ => [])
def fb_r1 (R : fb_RT) : Prop := ∀ s ty pa r C, R s ((s, ty, pa) :: r) none C → R s r none C
def fb_r2 (R : fb_RT) : Prop := ∀ s stk en f C, R s stk (some (s, en, f)) C → R s stk none C
def fb_r3 (sch : Nat → Nat) (B : Nat → Int32) (R : fb_RT) : Prop := ∀ s e ty pa r C s1 a s', R s ((e, ty, pa) :: r) none C → fb_Key B s e s1 a → fb_ky sch ty a = 0 → fb_Sk B e s1 (fb_w a) s' → R s' ((e, ty, pa) :: r) none C
def fb_r4 (sch : Nat → Nat) (B : Nat → Int32) (R : fb_RT) : Prop := ∀ s e ty pa r C s1 a s' b, R s ((e, ty, pa) :: r) none C → fb_Key B s e s1 a → fb_ky sch ty a ≠ 0 → fb_Sv B e s1 (fb_w a) s' b → R s' ((e, ty, pa) :: r) none (fb_ad C pa (fb_f a) ((fb_ky sch ty a - 1) % 2) (fb_cv ((fb_ky sch ty a - 1) / 4) b))
def fb_r5 (sch : Nat → Nat) (B : Nat → Int32) (R : fb_RT) : Prop := ∀ s e ty pa r C s1 a s2 n, R s ((e, ty, pa) :: r) none C → fb_Key B s e s1 a → fb_w a = 2 → fb_ky sch ty a ≠ 0 → (fb_ky sch ty a - 1) / 4 = 6 → fb_Vr B s1 e s2 (lN n) → s2 + n ≤ e → r.length < 2 → R s2 ((s2 + n, (fb_ky sch ty a - 1) % 4, pa * 16 + fb_f a) :: (e, ty, pa) :: r) none (fb_ms C pa (fb_f a))
def fb_r6 (sch : Nat → Nat) (B : Nat → Int32) (R : fb_RT) : Prop := ∀ s e ty pa r C s1 a s2 n, R s ((e, ty, pa) :: r) none C → fb_Key B s e s1 a → fb_w a = 2 → fb_ky sch ty a ≠ 0 → (fb_ky sch ty a - 1) / 4 ≠ 6 → fb_Vr B s1 e s2 (lN n) → s2 + n ≤ e → ((fb_ky sch ty a - 1) / 4 = 3 → n % 4 = 0) → ((fb_ky sch ty a - 1) / 4 = 5 → n % 8 = 0) → R s2 ((e, ty, pa) :: r) (some (s2 + n, fb_ky sch ty a, fb_f a)) C
def fb_r7 (B : Nat → Int32) (R : fb_RT) : Prop := ∀ s e ty pa r C pe en f s' b, R s ((e, ty, pa) :: r) (some (pe, en, f)) C → s < pe → fb_El B pe ((en - 1) / 4) s s' b → R s' ((e, ty, pa) :: r) (some (pe, en, f)) (fb_ad C pa f ((en - 1) % 2) (fb_cv ((en - 1) / 4) b))
def fb_Cl (sch : Nat → Nat) (B : Nat → Int32) (sz : Nat) (R : fb_RT) : Prop :=
  fb_r0 sz R ∧ fb_r1 R ∧ fb_r2 R ∧ fb_r3 sch B R ∧ fb_r4 sch B R ∧ fb_r5 sch B R ∧ fb_r6 sch B R ∧ fb_r7 B R
/-- the places that a reading of the body can come to -/
def fb_Tr (sch : Nat → Nat) (B : Nat → Int32) (sz s : Nat) (stk : fb_Stk) (pk : Option (Nat × Nat × Nat)) (C : fb_Con) : Prop :=
  ∀ R : fb_RT, fb_Cl sch B sz R → R s stk pk C
theorem fb_TrC (sch : Nat → Nat) (B : Nat → Int32) (sz : Nat) : fb_Cl sch B sz (fb_Tr sch B sz) := by
  refine ⟨?_, ?_, ?_, ?_, ?_, ?_, ?_, ?_⟩
  · intro R h; exact h.1
  · intro s ty pa r C t R h; exact h.2.1 s ty pa r C (t R h)
  · intro s stk en f C t R h; exact h.2.2.1 s stk en f C (t R h)
  · intro s e ty pa r C s1 a s' t k1 k2 k3 R h; exact h.2.2.2.1 s e ty pa r C s1 a s' (t R h) k1 k2 k3
  · intro s e ty pa r C s1 a s' b t k1 k2 k3 R h; exact h.2.2.2.2.1 s e ty pa r C s1 a s' b (t R h) k1 k2 k3
  · intro s e ty pa r C s1 a s2 n t k1 k2 k3 k4 k5 k6 k7 R h; exact h.2.2.2.2.2.1 s e ty pa r C s1 a s2 n (t R h) k1 k2 k3 k4 k5 k6 k7
  · intro s e ty pa r C s1 a s2 n t k1 k2 k3 k4 k5 k6 k7 k8 R h; exact h.2.2.2.2.2.2.1 s e ty pa r C s1 a s2 n (t R h) k1 k2 k3 k4 k5 k6 k7 k8
  · intro s e ty pa r C pe en f s' b t k1 k2 R h; exact h.2.2.2.2.2.2.2 s e ty pa r C pe en f s' b (t R h) k1 k2
/-- induction with the trace itself at hand -/
theorem fb_ind {sch : Nat → Nat} {B : Nat → Int32} {sz : Nat} {s : Nat} {stk : fb_Stk} {pk : Option (Nat × Nat × Nat)} {C : fb_Con} (t : fb_Tr sch B sz s stk pk C) (R : fb_RT)
    (h0 : fb_r0 sz R)
    (h1 : ∀ s ty pa r C, fb_Tr sch B sz s ((s, ty, pa) :: r) none C → R s ((s, ty, pa) :: r) none C → R s r none C)
    (h2 : ∀ s stk en f C, fb_Tr sch B sz s stk (some (s, en, f)) C → R s stk (some (s, en, f)) C → R s stk none C)
    (h3 : ∀ s e ty pa r C s1 a s', fb_Tr sch B sz s ((e, ty, pa) :: r) none C → R s ((e, ty, pa) :: r) none C → fb_Key B s e s1 a → fb_ky sch ty a = 0 → fb_Sk B e s1 (fb_w a) s' → R s' ((e, ty, pa) :: r) none C)
    (h4 : ∀ s e ty pa r C s1 a s' b, fb_Tr sch B sz s ((e, ty, pa) :: r) none C → R s ((e, ty, pa) :: r) none C → fb_Key B s e s1 a → fb_ky sch ty a ≠ 0 → fb_Sv B e s1 (fb_w a) s' b → R s' ((e, ty, pa) :: r) none (fb_ad C pa (fb_f a) ((fb_ky sch ty a - 1) % 2) (fb_cv ((fb_ky sch ty a - 1) / 4) b)))
    (h5 : ∀ s e ty pa r C s1 a s2 n, fb_Tr sch B sz s ((e, ty, pa) :: r) none C → R s ((e, ty, pa) :: r) none C → fb_Key B s e s1 a → fb_w a = 2 → fb_ky sch ty a ≠ 0 → (fb_ky sch ty a - 1) / 4 = 6 → fb_Vr B s1 e s2 (lN n) → s2 + n ≤ e → r.length < 2 → R s2 ((s2 + n, (fb_ky sch ty a - 1) % 4, pa * 16 + fb_f a) :: (e, ty, pa) :: r) none (fb_ms C pa (fb_f a)))
    (h6 : ∀ s e ty pa r C s1 a s2 n, fb_Tr sch B sz s ((e, ty, pa) :: r) none C → R s ((e, ty, pa) :: r) none C → fb_Key B s e s1 a → fb_w a = 2 → fb_ky sch ty a ≠ 0 → (fb_ky sch ty a - 1) / 4 ≠ 6 → fb_Vr B s1 e s2 (lN n) → s2 + n ≤ e → ((fb_ky sch ty a - 1) / 4 = 3 → n % 4 = 0) → ((fb_ky sch ty a - 1) / 4 = 5 → n % 8 = 0) → R s2 ((e, ty, pa) :: r) (some (s2 + n, fb_ky sch ty a, fb_f a)) C)
    (h7 : ∀ s e ty pa r C pe en f s' b, fb_Tr sch B sz s ((e, ty, pa) :: r) (some (pe, en, f)) C → R s ((e, ty, pa) :: r) (some (pe, en, f)) C → s < pe → fb_El B pe ((en - 1) / 4) s s' b → R s' ((e, ty, pa) :: r) (some (pe, en, f)) (fb_ad C pa f ((en - 1) % 2) (fb_cv ((en - 1) / 4) b))) : R s stk pk C := by
  have T := fb_TrC sch B sz
  refine (t (fun s stk pk C => fb_Tr sch B sz s stk pk C ∧ R s stk pk C) ⟨?_, ?_, ?_, ?_, ?_, ?_, ?_, ?_⟩).2
  · exact ⟨T.1, h0⟩
  · intro s ty pa r C t; exact ⟨T.2.1 s ty pa r C t.1, h1 s ty pa r C t.1 t.2⟩
  · intro s stk en f C t; exact ⟨T.2.2.1 s stk en f C t.1, h2 s stk en f C t.1 t.2⟩
  · intro s e ty pa r C s1 a s' t k1 k2 k3; exact ⟨T.2.2.2.1 s e ty pa r C s1 a s' t.1 k1 k2 k3, h3 s e ty pa r C s1 a s' t.1 t.2 k1 k2 k3⟩
  · intro s e ty pa r C s1 a s' b t k1 k2 k3; exact ⟨T.2.2.2.2.1 s e ty pa r C s1 a s' b t.1 k1 k2 k3, h4 s e ty pa r C s1 a s' b t.1 t.2 k1 k2 k3⟩
  · intro s e ty pa r C s1 a s2 n t k1 k2 k3 k4 k5 k6 k7; exact ⟨T.2.2.2.2.2.1 s e ty pa r C s1 a s2 n t.1 k1 k2 k3 k4 k5 k6 k7, h5 s e ty pa r C s1 a s2 n t.1 t.2 k1 k2 k3 k4 k5 k6 k7⟩
  · intro s e ty pa r C s1 a s2 n t k1 k2 k3 k4 k5 k6 k7 k8; exact ⟨T.2.2.2.2.2.2.1 s e ty pa r C s1 a s2 n t.1 k1 k2 k3 k4 k5 k6 k7 k8, h6 s e ty pa r C s1 a s2 n t.1 t.2 k1 k2 k3 k4 k5 k6 k7 k8⟩
  · intro s e ty pa r C pe en f s' b t k1 k2; exact ⟨T.2.2.2.2.2.2.2 s e ty pa r C pe en f s' b t.1 k1 k2, h7 s e ty pa r C pe en f s' b t.1 t.2 k1 k2⟩
end
section
/-! facts of the reading -/
theorem fb_flt (a : Int64) : fb_f a < 2 ^ 29 := by
  have h := a.toInt32.toBitVec.isLt
  unfold fb_f; omega
theorem fb_wlt (a : Int64) : fb_w a < 8 := Nat.mod_lt _ (by decide)
theorem fb_fE (a : Int64) : (a.toInt32.toUInt32 >>> ((3 : Int32).toUInt32 &&& Int32.toUInt32 31)).toInt32 = nI (fb_f a) := by
  apply fa_inj (Nat.lt_trans (fb_flt a) (by decide))
  rw [pk_ushr _ _ 3 (by decide)]; rfl
theorem fb_wE (a : Int64) : a.toInt32 &&& 7 = nI (fb_w a) := pk_and _ 3 (by decide)
theorem fb_VrL {B : Nat → Int32} {s e s' : Nat} {a : Int64} (h : fb_Vr B s e s' a) : s < s' ∧ s' ≤ e ∧ s' ≤ s + 10 := by
  obtain ⟨n, h1, _, _, h2, h3, _⟩ := h
  omega
theorem fb_vaC {B B' : Nat → Int32} {s : Nat} : ∀ n, (∀ i, i < s + n → B i = B' i) → fb_va B s n = fb_va B' s n
  | 0, _ => rfl
  | n + 1, h => by
    have e := fb_vaC (B := B) (B' := B') (s := s) n (fun i hi => h i (by omega))
    simp only [fb_va, e, h (s + n) (by omega)]
theorem fb_baC {B B' : Nat → Int32} {s : Nat} : ∀ n, (∀ i, i < s + n → B i = B' i) → fb_ba B s n = fb_ba B' s n
  | 0, _ => rfl
  | n + 1, h => by
    have e := fb_baC (B := B) (B' := B') (s := s) n (fun i hi => h i (by omega))
    simp only [fb_ba, e, h (s + n) (by omega)]
theorem fb_VrC {B B' : Nat → Int32} {s e s' : Nat} {a : Int64} (h : fb_Vr B s e s' a) (g : ∀ i, i < s' → B i = B' i) : fb_Vr B' s e s' a := by
  obtain ⟨n, h1, h2, h3, h4, h5, h6⟩ := h
  refine ⟨n, h1, fun j hj => ?_, ?_, h4, h5, ?_⟩
  · rw [← g (s + j) (by omega)]; exact h2 j hj
  · rw [← g (s + n) (by omega)]; exact h3
  · rw [h6]; exact fb_vaC (n + 1) (fun i hi => g i (by omega))
theorem fb_PvC {B B' : Nat → Int32} {s n : Nat} {a : Int64} (h : fb_Pv B s n a) (g : ∀ i, i < s + n → B i = B' i) : fb_Pv B' s n a := by
  obtain ⟨h1, h2, h3⟩ := h
  refine ⟨h1, fun j hj => ?_, ?_⟩
  · rw [← g (s + j) (by omega)]; exact h2 j hj
  · rw [h3]; exact fb_vaC n g
theorem fb_KeyC {B B' : Nat → Int32} {s e s1 : Nat} {a : Int64} (h : fb_Key B s e s1 a) (g : ∀ i, i < s1 → B i = B' i) : fb_Key B' s e s1 a :=
  ⟨h.1, fb_VrC h.2.1 g, h.2.2⟩
theorem fb_KeyL {B : Nat → Int32} {s e s1 : Nat} {a : Int64} (h : fb_Key B s e s1 a) : s < s1 ∧ s1 < e := by
  have h1 := fb_VrL h.2.1
  have h2 := h.2.2.2.2
  have h3 : 1 ≤ fb_le (fb_w a) := by unfold fb_le; split <;> (try split) <;> decide
  omega
theorem fb_le1 (w : Nat) : 1 ≤ fb_le w ∧ fb_le w ≤ 8 := by unfold fb_le; split <;> (try split) <;> decide
theorem fb_SkL {B : Nat → Int32} {e s1 w s' : Nat} (h : fb_Sk B e s1 w s') (hk : s1 + fb_le w ≤ e) : s1 < s' ∧ s' ≤ e := by
  have hl := fb_le1 w
  rcases h with ⟨_, b, h⟩ | ⟨_, h⟩ | ⟨_, s2, n, h, h1, h2⟩
  · have := fb_VrL h; omega
  · omega
  · have := fb_VrL h; omega
theorem fb_SkC {B B' : Nat → Int32} {e s1 w s' : Nat} (h : fb_Sk B e s1 w s') (g : ∀ i, i < s' → B i = B' i) : fb_Sk B' e s1 w s' := by
  rcases h with ⟨h1, b, h⟩ | h | ⟨h0, s2, n, h, h1, h2⟩
  · exact Or.inl ⟨h1, b, fb_VrC h g⟩
  · exact Or.inr (Or.inl h)
  · exact Or.inr (Or.inr ⟨h0, s2, n, fb_VrC h (fun i hi => g i (by omega)), h1, h2⟩)
theorem fb_SvL {B : Nat → Int32} {e s1 w s' : Nat} {b : Int64} (h : fb_Sv B e s1 w s' b) (hk : s1 + fb_le w ≤ e) : s1 < s' ∧ s' ≤ e := by
  have hl := fb_le1 w
  rcases h with ⟨_, h⟩ | ⟨_, h, _⟩
  · have := fb_VrL h; omega
  · omega
theorem fb_SvC {B B' : Nat → Int32} {e s1 w s' : Nat} {b : Int64} (h : fb_Sv B e s1 w s' b) (g : ∀ i, i < s' → B i = B' i) : fb_Sv B' e s1 w s' b := by
  rcases h with ⟨h1, h⟩ | ⟨h0, h1, h2⟩
  · exact Or.inl ⟨h1, fb_VrC h g⟩
  · exact Or.inr ⟨h0, h1, by rw [h2]; exact fb_baC _ (fun i hi => g i (by omega))⟩
theorem fb_ElC {B B' : Nat → Int32} {pe k s s' : Nat} {b : Int64} (h : fb_El B pe k s s' b) (g : ∀ i, i < s' → B i = B' i) : fb_El B' pe k s s' b := by
  rcases h with ⟨h0, h1, h2⟩ | ⟨h0, h1, h2⟩ | ⟨h0, h1, h2⟩
  · exact Or.inl ⟨h0, h1, by rw [h2]; exact fb_baC _ (fun i hi => g i (by omega))⟩
  · exact Or.inr (Or.inl ⟨h0, h1, by rw [h2]; exact fb_baC _ (fun i hi => g i (by omega))⟩)
  · exact Or.inr (Or.inr ⟨h0, h1, fb_VrC h2 g⟩)
theorem fb_ElL {B : Nat → Int32} {pe k s s' : Nat} {b : Int64} (h : fb_El B pe k s s' b) : s < s' := by
  rcases h with ⟨h0, h1, h2⟩ | ⟨h0, h1, h2⟩ | ⟨h0, h1, h2⟩
  · omega
  · omega
  · have := fb_VrL h2; omega
/-- only the bytes that are read count -/
theorem fb_TrB {sch : Nat → Nat} {B B' : Nat → Int32} {sz s : Nat} {stk : fb_Stk} {pk : Option (Nat × Nat × Nat)} {C : fb_Con} (t : fb_Tr sch B sz s stk pk C) (g : ∀ i, i < s → B i = B' i) : fb_Tr sch B' sz s stk pk C := by
  have T := fb_TrC sch B' sz
  refine fb_ind t (fun s stk pk C => (∀ i, i < s → B i = B' i) → fb_Tr sch B' sz s stk pk C) ?_ ?_ ?_ ?_ ?_ ?_ ?_ ?_ g
  · exact fun _ => T.1
  · intro s ty pa r C _ h g; exact T.2.1 _ _ _ _ _ (h g)
  · intro s stk en f C _ h g; exact T.2.2.1 _ _ _ _ _ (h g)
  · intro s e ty pa r C s1 a s' _ h k1 k2 k3 g
    have l1 := fb_KeyL k1
    have l2 := fb_SkL k3 k1.2.2.2.2
    exact T.2.2.2.1 _ _ _ _ _ _ _ _ _ (h fun i hi => g i (by omega)) (fb_KeyC k1 fun i hi => g i (by omega)) k2 (fb_SkC k3 g)
  · intro s e ty pa r C s1 a s' b _ h k1 k2 k3 g
    have l1 := fb_KeyL k1
    have l2 := fb_SvL k3 k1.2.2.2.2
    exact T.2.2.2.2.1 _ _ _ _ _ _ _ _ _ _ (h fun i hi => g i (by omega)) (fb_KeyC k1 fun i hi => g i (by omega)) k2 (fb_SvC k3 g)
  · intro s e ty pa r C s1 a s2 n _ h k1 k2 k3 k4 k5 k6 k7 g
    have l1 := fb_KeyL k1
    have l2 := fb_VrL k5
    exact T.2.2.2.2.2.1 _ _ _ _ _ _ _ _ _ _ (h fun i hi => g i (by omega)) (fb_KeyC k1 fun i hi => g i (by omega)) k2 k3 k4 (fb_VrC k5 g) k6 k7
  · intro s e ty pa r C s1 a s2 n _ h k1 k2 k3 k4 k5 k6 k7 k8 g
    have l1 := fb_KeyL k1
    have l2 := fb_VrL k5
    exact T.2.2.2.2.2.2.1 _ _ _ _ _ _ _ _ _ _ (h fun i hi => g i (by omega)) (fb_KeyC k1 fun i hi => g i (by omega)) k2 k3 k4 (fb_VrC k5 g) k6 k7 k8
  · intro s e ty pa r C pe en f s' b _ h k1 k2 g
    have l2 := fb_ElL k2
    exact T.2.2.2.2.2.2.2 _ _ _ _ _ _ _ _ _ _ _ (h fun i hi => g i (by omega)) k1 (fb_ElC k2 g)
/-! the schema -/
def fb_Sc (sch : Nat → Nat) : Prop := ∀ i, sch i ≤ 28 ∧ ((sch i - 1) / 4 = 6 ∨ (sch i - 1) % 4 ≤ 1)
theorem fb_kyE {sch : Nat → Nat} {ty : Nat} {a : Int64} (h : fb_ky sch ty a ≠ 0) : fb_f a ≤ 15 ∧ sch (ty * 16 + fb_f a) = fb_ky sch ty a ∧ (fb_w a = fb_wk ((fb_ky sch ty a - 1) / 4) ∨ (fb_w a = 2 ∧ (fb_ky sch ty a - 1) % 2 = 1)) := by
  by_cases h1 : fb_f a ≤ 15
  · have e1 : fb_ky sch ty a = fb_kn (sch (ty * 16 + fb_f a)) (fb_w a) := if_pos h1
    by_cases h2 : sch (ty * 16 + fb_f a) ≠ 0 ∧ (fb_w a = fb_wk ((sch (ty * 16 + fb_f a) - 1) / 4) ∨ (fb_w a = 2 ∧ (sch (ty * 16 + fb_f a) - 1) % 2 = 1))
    · have e2 : fb_kn (sch (ty * 16 + fb_f a)) (fb_w a) = sch (ty * 16 + fb_f a) := if_pos h2
      rw [e1, e2]; exact ⟨h1, rfl, h2.2⟩
    · exact absurd (e1.trans (if_neg h2)) h
  · exact absurd (if_neg h1) h
theorem fb_wk2 {k : Nat} (h : fb_wk k = 2) : k = 6 := by
  unfold fb_wk at h
  by_cases h3 : k = 3
  · rw [if_pos h3] at h; omega
  · rw [if_neg h3] at h
    by_cases h5 : k = 5
    · rw [if_pos h5] at h; omega
    · rw [if_neg h5] at h
      by_cases h6 : k = 6
      · exact h6
      · rw [if_neg h6] at h; omega
/-- a message's field f of type ty, itself of type t -/
def fb_Ms (sch : Nat → Nat) (ty f t : Nat) : Prop := 1 ≤ f ∧ f ≤ 15 ∧ t ≤ 3 ∧ sch (ty * 16 + f) = 25 + t
theorem fb_MsI {sch : Nat → Nat} {ty : Nat} {a : Int64} (hs : fb_Sc sch) (h0 : fb_f a ≠ 0) (h : fb_ky sch ty a ≠ 0) (h6 : (fb_ky sch ty a - 1) / 4 = 6) : fb_Ms sch ty (fb_f a) ((fb_ky sch ty a - 1) % 4) := by
  obtain ⟨h1, h2, _⟩ := fb_kyE h
  have := hs (ty * 16 + fb_f a)
  refine ⟨by omega, h1, by omega, by omega⟩
/-- the stack's shapes -/
def fb_WS (sch : Nat → Nat) (sz s : Nat) (stk : fb_Stk) : Prop :=
  (stk = [] ∧ s = sz) ∨ (stk = [(sz, 0, 0)] ∧ s ≤ sz) ∨
  (∃ e t f, stk = [(e, t, f), (sz, 0, 0)] ∧ s ≤ e ∧ e ≤ sz ∧ fb_Ms sch 0 f t) ∨
  (∃ e' t' g e t f, stk = [(e', t', f * 16 + g), (e, t, f), (sz, 0, 0)] ∧ s ≤ e' ∧ e' ≤ e ∧ e ≤ sz ∧ fb_Ms sch 0 f t ∧ fb_Ms sch t g t')
def fb_WP (sch : Nat → Nat) (s : Nat) (stk : fb_Stk) (pk : Option (Nat × Nat × Nat)) : Prop :=
  ∀ pe en f, pk = some (pe, en, f) → ∃ e ty pa r, stk = (e, ty, pa) :: r ∧ s ≤ pe ∧ pe ≤ e ∧ 1 ≤ f ∧ f ≤ 15 ∧ sch (ty * 16 + f) = en ∧ en ≠ 0 ∧ (en - 1) / 4 ≠ 6 ∧ (en - 1) % 2 = 1 ∧ ((en - 1) / 4 = 3 → (pe - s) % 4 = 0) ∧ ((en - 1) / 4 = 5 → (pe - s) % 8 = 0)
theorem fb_WSs {sch : Nat → Nat} {sz s s' e ty pa : Nat} {r : fb_Stk} (h : fb_WS sch sz s ((e, ty, pa) :: r)) (h' : s' ≤ e) : fb_WS sch sz s' ((e, ty, pa) :: r) := by
  rcases h with ⟨h, _⟩ | ⟨h, _⟩ | ⟨e1, t, f, h, h1, h2, h3⟩ | ⟨e2, t2, g, e1, t1, f, h, h1, h2, h3, h4, h5⟩
  · cases h
  · cases h; exact Or.inr (Or.inl ⟨rfl, h'⟩)
  · cases h; exact Or.inr (Or.inr (Or.inl ⟨_, _, _, rfl, h', h2, h3⟩))
  · cases h; exact Or.inr (Or.inr (Or.inr ⟨_, _, _, _, _, _, rfl, h', h2, h3, h4, h5⟩))
theorem fb_WSpop {sch : Nat → Nat} {sz s ty pa : Nat} {r : fb_Stk} (h : fb_WS sch sz s ((s, ty, pa) :: r)) : fb_WS sch sz s r := by
  rcases h with ⟨h, _⟩ | ⟨h, _⟩ | ⟨e1, t, f, h, h1, h2, h3⟩ | ⟨e2, t2, g, e1, t1, f, h, h1, h2, h3, h4, h5⟩
  · cases h
  · cases h; exact Or.inl ⟨rfl, rfl⟩
  · cases h; exact Or.inr (Or.inl ⟨rfl, h2⟩)
  · cases h; exact Or.inr (Or.inr (Or.inl ⟨_, _, _, rfl, h2, h3, h4⟩))
theorem fb_WSpush {sch : Nat → Nat} {sz s s2 e' e ty pa f t : Nat} {r : fb_Stk} (h : fb_WS sch sz s ((e, ty, pa) :: r)) (hr : r.length < 2) (h2 : s2 ≤ e') (he : e' ≤ e) (hm : fb_Ms sch ty f t) : fb_WS sch sz s2 ((e', t, pa * 16 + f) :: (e, ty, pa) :: r) := by
  rcases h with ⟨h, _⟩ | ⟨h, _⟩ | ⟨e1, t1, f1, h, h1, h3, h4⟩ | ⟨e2, t2, g, e1, t1, f, h, h1, h2, h3, h4, h5⟩
  · cases h
  · cases h
    refine Or.inr (Or.inr (Or.inl ⟨e', t, f, ?_, h2, he, hm⟩))
    rw [Nat.zero_mul, Nat.zero_add]
  · cases h; exact Or.inr (Or.inr (Or.inr ⟨_, _, _, _, _, _, rfl, h2, he, h3, h4, hm⟩))
  · cases h; exact absurd hr (by simp)
theorem fb_WStop {sch : Nat → Nat} {sz s e ty pa : Nat} {r : fb_Stk} (h : fb_WS sch sz s ((e, ty, pa) :: r)) : s ≤ e ∧ e ≤ sz ∧ ty ≤ 3 ∧ pa < 256 ∧ r.length ≤ 2 := by
  rcases h with ⟨h, _⟩ | ⟨h, _⟩ | ⟨e1, t, f, h, h1, h2, h3⟩ | ⟨e2, t2, g, e1, t1, f, h, h1, h2, h3, h4, h5⟩
  · cases h
  · cases h; exact ⟨by omega, by omega, by omega, by omega, by decide⟩
  · cases h; obtain ⟨a1, a2, a3, _⟩ := h3; exact ⟨by omega, by omega, by omega, by omega, by simp⟩
  · cases h; obtain ⟨a1, a2, a3, _⟩ := h4; obtain ⟨b1, b2, b3, _⟩ := h5; exact ⟨by omega, by omega, by omega, by omega, by simp⟩
theorem fb_W {sch : Nat → Nat} {B : Nat → Int32} {sz s : Nat} {stk : fb_Stk} {pk : Option (Nat × Nat × Nat)} {C : fb_Con} (hs : fb_Sc sch) (t : fb_Tr sch B sz s stk pk C) : fb_WS sch sz s stk ∧ fb_WP sch s stk pk := by
  refine fb_ind t (fun s stk pk C => fb_WS sch sz s stk ∧ fb_WP sch s stk pk) ?_ ?_ ?_ ?_ ?_ ?_ ?_ ?_
  · exact ⟨Or.inr (Or.inl ⟨rfl, Nat.zero_le _⟩), fun _ _ _ h => nomatch h⟩
  · intro s ty pa r C _ h; exact ⟨fb_WSpop h.1, fun _ _ _ h => nomatch h⟩
  · intro s stk en f C _ h; exact ⟨h.1, fun _ _ _ h => nomatch h⟩
  · intro s e ty pa r C s1 a s' _ h k1 k2 k3
    exact ⟨fb_WSs h.1 (fb_SkL k3 k1.2.2.2.2).2, fun _ _ _ h => nomatch h⟩
  · intro s e ty pa r C s1 a s' b _ h k1 k2 k3
    exact ⟨fb_WSs h.1 (fb_SvL k3 k1.2.2.2.2).2, fun _ _ _ h => nomatch h⟩
  · intro s e ty pa r C s1 a s2 n _ h k1 k2 k3 k4 k5 k6 k7
    exact ⟨fb_WSpush h.1 k7 (Nat.le_add_right _ _) k6 (fb_MsI hs k1.2.2.1 k3 k4), fun _ _ _ h => nomatch h⟩
  · intro s e ty pa r C s1 a s2 n _ h k1 k2 k3 k4 k5 k6 k7 k8
    refine ⟨fb_WSs h.1 (by omega), ?_⟩
    intro pe en f hp
    cases hp
    obtain ⟨e1, e2, e3⟩ := fb_kyE k3
    have h0 := k1.2.2.1
    have h3 : (fb_ky sch ty a - 1) % 2 = 1 := by
      rcases e3 with e3 | e3
      · rw [k2] at e3
        exact absurd (fb_wk2 e3.symm) k4
      · exact e3.2
    refine ⟨e, ty, pa, r, rfl, by omega, k6, by omega, e1, e2, k3, k4, h3, fun z => ?_, fun z => ?_⟩
    · have := k7 z; rw [Nat.add_sub_cancel_left]; exact this
    · have := k8 z; rw [Nat.add_sub_cancel_left]; exact this
  · intro s e ty pa r C pe en f s' b _ h k1 k2
    obtain ⟨hw, hp⟩ := h
    have hp' := hp pe en f rfl
    obtain ⟨e', ty', pa', r', hh, h1, h2, h3, h4, h5, h6, h7, h8, h9, h10⟩ := hp'
    cases hh
    have hle : s' ≤ pe := by
      rcases k2 with ⟨a1, a2, a3⟩ | ⟨a1, a2, a3⟩ | ⟨a1, a2, a3⟩
      · have := h9 a1; omega
      · have := h10 a1; omega
      · exact (fb_VrL a3).2.1
    have hlt := fb_ElL k2
    refine ⟨fb_WSs hw (by omega), ?_⟩
    intro pe2 en2 f2 hp2
    cases hp2
    refine ⟨e, ty, pa, r, rfl, hle, h2, h3, h4, h5, h6, h7, h8, fun z => ?_, fun z => ?_⟩
    · have := h9 z
      rcases k2 with ⟨a1, a2, a3⟩ | ⟨a1, a2, a3⟩ | ⟨a1, a2, a3⟩
      · omega
      · omega
      · exact absurd z a1
    · have := h10 z
      rcases k2 with ⟨a1, a2, a3⟩ | ⟨a1, a2, a3⟩ | ⟨a1, a2, a3⟩
      · omega
      · omega
      · exact absurd z a2
end
section
/-! what a reading has gathered -/
def fb_F (j : Nat) (l : List (Nat × Int64)) : List (Nat × Int64) := l.filter (fun p => decide (p.1 = j))
theorem fb_F_nil (j : Nat) : fb_F j [] = [] := rfl
theorem fb_F_cons (j : Nat) (p : Nat × Int64) (l : List (Nat × Int64)) : fb_F j (p :: l) = if p.1 = j then p :: fb_F j l else fb_F j l := by
  unfold fb_F
  by_cases h : p.1 = j <;> simp [h]
theorem fb_F_app (j : Nat) (l m : List (Nat × Int64)) : fb_F j (l ++ m) = fb_F j l ++ fb_F j m := by
  unfold fb_F; exact List.filter_append ..
theorem fb_F_one (j f : Nat) (v : Int64) : fb_F j [(f, v)] = if f = j then [(f, v)] else [] := by
  rw [fb_F_cons, fb_F_nil]
theorem fb_F_mem {j : Nat} {p : Nat × Int64} {l : List (Nat × Int64)} (h : p ∈ fb_F j l) : p.1 = j ∧ p ∈ l := by
  unfold fb_F at h
  rw [List.mem_filter] at h
  exact ⟨of_decide_eq_true h.2, h.1⟩
theorem fb_F_mk_ne {j f : Nat} (h : f ≠ j) : ∀ l, fb_F j (fb_mk l f) = fb_F j l
  | [] => by rw [fb_mk, fb_F_one, if_neg h, fb_F_nil]
  | p :: l => by
    rw [fb_mk]
    by_cases hp : p.1 = f
    · rw [if_pos hp]
    · rw [if_neg hp, fb_F_cons, fb_F_cons, fb_F_mk_ne h l]
theorem fb_F_mk_eq {f : Nat} : ∀ l, fb_F f (fb_mk l f) = if fb_F f l = [] then [(f, 0)] else fb_F f l
  | [] => by rw [fb_mk, fb_F_one, if_pos rfl, fb_F_nil, if_pos rfl]
  | p :: l => by
    rw [fb_mk]
    by_cases hp : p.1 = f
    · rw [if_pos hp, fb_F_cons, if_pos hp, if_neg (List.cons_ne_nil _ _)]
    · rw [if_neg hp, fb_F_cons, if_neg hp, fb_F_cons, if_neg hp, fb_F_mk_eq l]
theorem fb_F_pt_ne {j f : Nat} {v : Int64} (h : f ≠ j) : ∀ l, fb_F j (fb_pt l f v) = fb_F j l
  | [] => rfl
  | p :: l => by
    rw [fb_pt]
    by_cases hp : p.1 = f
    · rw [if_pos hp, fb_F_cons, fb_F_cons, if_neg h, if_neg (fun z => h (hp.symm.trans z))]
    · rw [if_neg hp, fb_F_cons, fb_F_cons, fb_F_pt_ne h l]
theorem fb_F_pt_eq {f : Nat} {v : Int64} : ∀ l, fb_F f (fb_pt l f v) = fb_pt (fb_F f l) f v
  | [] => rfl
  | p :: l => by
    rw [fb_pt]
    by_cases hp : p.1 = f
    · rw [if_pos hp, fb_F_cons, if_pos rfl, fb_F_cons, if_pos hp, fb_pt, if_pos hp]
    · rw [if_neg hp, fb_F_cons, if_neg hp, fb_F_cons, if_neg hp, fb_F_pt_eq l]
/-- a singular field holds its last value -/
theorem fb_F_sg {f : Nat} {v : Int64} {l : List (Nat × Int64)} (h : (fb_F f l).length ≤ 1) : fb_F f (fb_pt (fb_mk l f) f v) = [(f, v)] := by
  rw [fb_F_pt_eq, fb_F_mk_eq]
  match hl : fb_F f l with
  | [] => rw [if_pos rfl, fb_pt, if_pos rfl]
  | [p] =>
    have hp : p.1 = f := (fb_F_mem (by rw [hl]; exact List.mem_singleton.mpr rfl : p ∈ fb_F f l)).1
    rw [if_neg (List.cons_ne_nil _ _), fb_pt, if_pos hp]
  | p :: q :: r => rw [hl] at h; simp at h
theorem fb_mk_mem {f : Nat} {p : Nat × Int64} : ∀ {l}, p ∈ fb_mk l f → p ∈ l ∨ p.1 = f
  | [], h => by rw [fb_mk, List.mem_singleton] at h; rw [h]; exact Or.inr rfl
  | q :: l, h => by
    rw [fb_mk] at h
    by_cases hq : q.1 = f
    · rw [if_pos hq] at h; exact Or.inl h
    · rw [if_neg hq, List.mem_cons] at h
      rcases h with h | h
      · exact Or.inl (by rw [h]; exact List.mem_cons_self)
      · exact (fb_mk_mem h).imp (List.mem_cons_of_mem _) id
theorem fb_pt_mem {f : Nat} {v : Int64} {p : Nat × Int64} : ∀ {l}, p ∈ fb_pt l f v → p ∈ l ∨ p.1 = f
  | [], h => by rw [fb_pt] at h; exact Or.inl h
  | q :: l, h => by
    rw [fb_pt] at h
    by_cases hq : q.1 = f
    · rw [if_pos hq, List.mem_cons] at h
      rcases h with h | h
      · exact Or.inr (by rw [h])
      · exact Or.inl (List.mem_cons_of_mem _ h)
    · rw [if_neg hq, List.mem_cons] at h
      rcases h with h | h
      · exact Or.inl (by rw [h]; exact List.mem_cons_self)
      · exact (fb_pt_mem h).imp (List.mem_cons_of_mem _) id
theorem fb_up_s (C : fb_Con) (q : Nat) (l : List (Nat × Int64)) : fb_up C q l q = l := if_pos rfl
theorem fb_up_n {C : fb_Con} {q z : Nat} {l : List (Nat × Int64)} (h : z ≠ q) : fb_up C q l z = C z := if_neg h
/-- C' is C with field f, of message q, present -/
def fb_Gr (C C' : fb_Con) (q f : Nat) : Prop :=
  (∀ z, z ≠ q → C' z = C z) ∧ (∀ j, j ≠ f → fb_F j (C' q) = fb_F j (C q)) ∧ fb_F f (C' q) ≠ [] ∧ (∀ p, p ∈ C' q → p ∈ C q ∨ p.1 = f)
theorem fb_Gr_ms (C : fb_Con) (q f : Nat) : fb_Gr C (fb_ms C q f) q f := by
  refine ⟨fun z hz => fb_up_n hz, fun j hj => ?_, ?_, fun p hp => ?_⟩
  · unfold fb_ms; rw [fb_up_s]; exact fb_F_mk_ne (Ne.symm hj) _
  · unfold fb_ms; rw [fb_up_s, fb_F_mk_eq]
    split
    · exact List.cons_ne_nil _ _
    · assumption
  · unfold fb_ms at hp; rw [fb_up_s] at hp; exact fb_mk_mem hp
theorem fb_Gr_ad (C : fb_Con) (q f rep : Nat) (v : Int64) : fb_Gr C (fb_ad C q f rep v) q f := by
  unfold fb_ad
  refine ⟨fun z hz => fb_up_n hz, fun j hj => ?_, ?_, fun p hp => ?_⟩
  · rw [fb_up_s]
    split
    · rw [fb_F_app, fb_F_one, if_neg (Ne.symm hj), List.append_nil]
    · rw [fb_F_pt_ne (Ne.symm hj), fb_F_mk_ne (Ne.symm hj)]
  · rw [fb_up_s]
    split
    · rw [fb_F_app, fb_F_one, if_pos rfl]; simp
    · rw [fb_F_pt_eq, fb_F_mk_eq]
      split
      · rw [fb_pt, if_pos rfl]; exact List.cons_ne_nil _ _
      · rename_i h
        match hl : fb_F f (C q) with
        | [] => exact absurd hl h
        | x :: r =>
          rw [fb_pt]
          split <;> exact List.cons_ne_nil _ _
  · rw [fb_up_s] at hp
    split at hp
    · rw [List.mem_append, List.mem_singleton] at hp
      exact hp.imp id (fun h => by rw [h])
    · rcases fb_pt_mem hp with h | h
      · exact fb_mk_mem h
      · exact Or.inr h
theorem fb_Gr_k {C C' : fb_Con} {q f z j : Nat} (h : fb_Gr C C' q f) (hj : fb_F j (C z) ≠ []) : fb_F j (C' z) ≠ [] := by
  by_cases hz : z = q
  · subst hz
    by_cases e : j = f
    · subst e; exact h.2.2.1
    · rw [h.2.1 j e]; exact hj
  · rw [h.1 z hz]; exact hj
theorem fb_F_ne {j : Nat} {l : List (Nat × Int64)} (h : fb_F j l ≠ []) : l ≠ [] := fun z => h (by rw [z]; rfl)
/-- message q is of type t -/
def fb_PT (sch : Nat → Nat) (q t : Nat) : Prop := (q = 0 ∧ t = 0) ∨ fb_Ms sch 0 q t ∨ (∃ f g t1, q = f * 16 + g ∧ fb_Ms sch 0 f t1 ∧ fb_Ms sch t1 g t)
theorem fb_PTu {sch : Nat → Nat} {q t t' : Nat} (h : fb_PT sch q t) (h' : fb_PT sch q t') : t = t' := by
  rcases h with ⟨h, h0⟩ | ⟨a1, a2, a3, a4⟩ | ⟨f, g, t1, e, ⟨a1, a2, a3, a4⟩, b1, b2, b3, b4⟩ <;> rcases h' with ⟨h', h0'⟩ | ⟨c1, c2, c3, c4⟩ | ⟨f', g', t1', e', ⟨c1, c2, c3, c4⟩, d1, d2, d3, d4⟩
  · omega
  · omega
  · omega
  · omega
  · omega
  · omega
  · omega
  · omega
  · have e1 : f = f' := by omega
    have e2 : g = g' := by omega
    subst e1 e2
    have e3 : t1 = t1' := by omega
    subst e3
    omega
/-- message q was met -/
def fb_OP (C : fb_Con) (q : Nat) : Prop := q = 0 ∨ (q < 16 ∧ fb_F q (C 0) ≠ []) ∨ (16 ≤ q ∧ fb_F (q / 16) (C 0) ≠ [] ∧ fb_F (q % 16) (C (q / 16)) ≠ [])
theorem fb_OPk {C C' : fb_Con} {q f z : Nat} (h : fb_Gr C C' q f) (o : fb_OP C z) : fb_OP C' z := by
  rcases o with o | ⟨o1, o2⟩ | ⟨o1, o2, o3⟩
  · exact Or.inl o
  · exact Or.inr (Or.inl ⟨o1, fb_Gr_k h o2⟩)
  · exact Or.inr (Or.inr ⟨o1, fb_Gr_k h o2, fb_Gr_k h o3⟩)
def fb_Sg (sch : Nat → Nat) (t f : Nat) : Prop := (sch (t * 16 + f) - 1) % 2 ≠ 1 ∨ (sch (t * 16 + f) - 1) / 4 = 6
def fb_WC (sch : Nat → Nat) (stk : fb_Stk) (C : fb_Con) : Prop :=
  (∀ q p, p ∈ C q → 1 ≤ p.1 ∧ p.1 ≤ 15) ∧
  (∀ q t f, fb_PT sch q t → fb_Sg sch t f → (fb_F f (C q)).length ≤ 1) ∧
  (∀ q, C q ≠ [] → fb_OP C q ∧ ∃ t, fb_PT sch q t) ∧
  (∀ x, x ∈ stk → fb_OP C x.2.2 ∧ fb_PT sch x.2.2 x.2.1)
theorem fb_WCk {sch : Nat → Nat} {stk : fb_Stk} {C C' : fb_Con} {q t f : Nat} (h : fb_WC sch stk C) (g : fb_Gr C C' q f) (ho : fb_OP C q) (ht : fb_PT sch q t) (h1 : 1 ≤ f) (h2 : f ≤ 15) (hl : fb_Sg sch t f → (fb_F f (C' q)).length ≤ 1) : fb_WC sch stk C' := by
  obtain ⟨c1, c2, c3, c4⟩ := h
  refine ⟨fun z p hp => ?_, fun z t' j hz hs => ?_, fun z hz => ?_, fun x hx => ⟨fb_OPk g (c4 x hx).1, (c4 x hx).2⟩⟩
  · by_cases e : z = q
    · subst e
      rcases g.2.2.2 p hp with h | h
      · exact c1 _ p h
      · omega
    · rw [g.1 z e] at hp; exact c1 z p hp
  · by_cases e : z = q
    · subst e
      by_cases ej : j = f
      · subst ej
        have et := fb_PTu hz ht
        subst et
        exact hl hs
      · rw [g.2.1 j ej]; exact c2 z t' j hz hs
    · rw [g.1 z e]; exact c2 z t' j hz hs
  · by_cases e : z = q
    · subst e; exact ⟨fb_OPk g ho, t, ht⟩
    · rw [g.1 z e] at hz
      exact ⟨fb_OPk g (c3 z hz).1, (c3 z hz).2⟩
theorem fb_PTp {sch : Nat → Nat} {sz s e ty pa f t : Nat} {r : fb_Stk} (h : fb_WS sch sz s ((e, ty, pa) :: r)) (hr : r.length < 2) (hm : fb_Ms sch ty f t) : fb_PT sch (pa * 16 + f) t := by
  rcases h with ⟨h, _⟩ | ⟨h, _⟩ | ⟨e1, t1, f1, h, h1, h3, h4⟩ | ⟨e2, t2, g, e1, t1, f, h, h1, h2, h3, h4, h5⟩
  · cases h
  · cases h; rw [Nat.zero_mul, Nat.zero_add]; exact Or.inr (Or.inl hm)
  · cases h; exact Or.inr (Or.inr ⟨_, _, _, rfl, h4, hm⟩)
  · cases h; exact absurd hr (by simp)
theorem fb_OPp {sch : Nat → Nat} {sz s e ty pa f : Nat} {r : fb_Stk} {C : fb_Con} (h : fb_WS sch sz s ((e, ty, pa) :: r)) (hr : r.length < 2) (ho : fb_OP C pa) (h2 : f ≤ 15) (hf : fb_F f (C pa) ≠ []) : fb_OP C (pa * 16 + f) := by
  rcases h with ⟨h, _⟩ | ⟨h, _⟩ | ⟨e1, t1, f1, h, h1, h3, h4⟩ | ⟨e2, t2, g, e1, t1, f, h, h1, h2, h3, h4, h5⟩
  · cases h
  · cases h; rw [Nat.zero_mul, Nat.zero_add]; exact Or.inr (Or.inl ⟨by omega, hf⟩)
  · cases h
    obtain ⟨a1, a2, _⟩ := h4
    rcases ho with ho | ⟨o1, o2⟩ | ⟨o1, o2, o3⟩
    · omega
    · have e1 : (pa * 16 + f) / 16 = pa := by omega
      have e2 : (pa * 16 + f) % 16 = f := by omega
      exact Or.inr (Or.inr ⟨by omega, by rw [e1]; exact o2, by rw [e1, e2]; exact hf⟩)
    · omega
  · cases h; exact absurd hr (by simp)
theorem fb_C {sch : Nat → Nat} {B : Nat → Int32} {sz s : Nat} {stk : fb_Stk} {pk : Option (Nat × Nat × Nat)} {C : fb_Con} (hs : fb_Sc sch) (t : fb_Tr sch B sz s stk pk C) : fb_WC sch stk C := by
  refine fb_ind t (fun s stk pk C => fb_WC sch stk C) ?_ ?_ ?_ ?_ ?_ ?_ ?_ ?_
  · refine ⟨fun _ _ h => (nomatch h), fun _ _ _ _ _ => by rw [fb_F_nil]; decide, fun _ h => absurd rfl h, fun x hx => ?_⟩
    rw [List.mem_singleton] at hx
    subst hx
    exact ⟨Or.inl rfl, Or.inl ⟨rfl, rfl⟩⟩
  · intro s ty pa r C _ h; exact ⟨h.1, h.2.1, h.2.2.1, fun x hx => h.2.2.2 x (List.mem_cons_of_mem _ hx)⟩
  · intro s stk en f C _ h; exact h
  · intro s e ty pa r C s1 a s' _ h k1 k2 k3; exact h
  · intro s e ty pa r C s1 a s' b _ h k1 k2 k3
    obtain ⟨e1, e2, e3⟩ := fb_kyE k2
    have h0 := k1.2.2.1
    obtain ⟨o1, o2⟩ := h.2.2.2 _ List.mem_cons_self
    refine fb_WCk h (fb_Gr_ad _ _ _ _ _) o1 o2 (by omega) e1 (fun hg => ?_)
    unfold fb_Sg at hg
    rw [e2] at hg
    have h6 : (fb_ky sch ty a - 1) / 4 ≠ 6 := by
      intro z
      rw [z] at e3
      have w2 : fb_w a = 2 := e3.elim (fun q => q) (fun q => q.1)
      rcases k3 with ⟨k, _⟩ | ⟨k, _⟩
      · omega
      · omega
    have hr : ¬ (fb_ky sch ty a - 1) % 2 = 1 := hg.elim id (fun z => absurd z h6)
    unfold fb_ad
    rw [fb_up_s, if_neg hr, fb_F_sg (h.2.1 _ _ _ o2 (by unfold fb_Sg; rw [e2]; exact hg))]
    exact Nat.le_refl _
  · intro s e ty pa r C s1 a s2 n t0 h k1 k2 k3 k4 k5 k6 k7
    obtain ⟨e1, e2, e3⟩ := fb_kyE k3
    have h0 := k1.2.2.1
    have hW := (fb_W hs t0).1
    have hM := fb_MsI hs h0 k3 k4
    obtain ⟨o1, o2⟩ := h.2.2.2 _ List.mem_cons_self
    have g := fb_Gr_ms C pa (fb_f a)
    have hk := fb_WCk h g o1 o2 (by omega) e1 (fun hg => by
      unfold fb_ms
      rw [fb_up_s, fb_F_mk_eq]
      split
      · exact Nat.le_refl _
      · exact h.2.1 _ _ _ o2 hg)
    refine ⟨hk.1, hk.2.1, hk.2.2.1, fun x hx => ?_⟩
    rw [List.mem_cons] at hx
    rcases hx with hx | hx
    · subst hx
      exact ⟨fb_OPp hW k7 (fb_OPk g o1) e1 g.2.2.1, fb_PTp hW k7 hM⟩
    · exact hk.2.2.2 x hx
  · intro s e ty pa r C s1 a s2 n _ h k1 k2 k3 k4 k5 k6 k7 k8; exact h
  · intro s e ty pa r C pe en f s' b t0 h k1 k2
    obtain ⟨e', ty', pa', r', hh, h1, h2, h3, h4, h5, h6, h7, h8, h9, h10⟩ := (fb_W hs t0).2 pe en f rfl
    cases hh
    obtain ⟨o1, o2⟩ := h.2.2.2 _ List.mem_cons_self
    refine fb_WCk h (fb_Gr_ad _ _ _ _ _) o1 o2 h3 h4 (fun hg => ?_)
    unfold fb_Sg at hg
    rw [h5] at hg
    exact absurd h8 (hg.elim id (fun z => absurd z h7))
end
section
/-! the reference's reading of bytes -/
theorem fa_or16 {a b : Nat} (hb : b < 16) (ha : a < 2 ^ 20) : (nI a <<< ((4 : Int32) &&& 31)) ||| nI b = nI (a * 16 + b) := by
  rw [pk_shlN (n := a) _ 4 (by decide) (by omega)]
  have h1 : a * 2 ^ 4 ||| b = a * 2 ^ 4 + b := by rw [← Nat.shiftLeft_eq, Nat.shiftLeft_add_eq_or_of_lt hb]
  apply Int32.toBitVec_inj.1
  rw [Int32.toBitVec_or]
  apply BitVec.eq_of_toNat_eq
  rw [BitVec.toNat_or, pk_tn (by omega), pk_tn (by omega), pk_tn (by omega)]
  exact h1
theorem fa_or256 {a b : Nat} (hb : b < 256) (ha : a < 2 ^ 40) : (lN a <<< ((8 : Int32).toInt64 &&& 63)) ||| lN b = lN (a * 256 + b) := by
  have h := wb_shl a (k := 8) (by decide)
  rw [show (nI 8) = (8 : Int32) from rfl] at h
  rw [h]
  exact g_or (k := 8) (p := 256) (by decide) hb (by omega)
theorem fa_m256 {a : Nat} (ha : a < 2 ^ 62) : (lN a &&& 255).toInt32 = nI (a % 256) := by
  have h := wb_mask (n := a) (k := 8) (by omega) (by decide)
  rw [show lN (2 ^ 8 - 1) = (255 : Int64) from rfl] at h
  rw [h, lN_i]
theorem fa_m16 {a : Nat} (ha : a < 2 ^ 32) : nI a &&& 15 = nI (a % 16) := pk_andN ha 4 (by decide)
theorem fa_s8 {a : Nat} (ha : a < 2 ^ 62) : lN a >>> ((8 : Int32).toInt64 &&& 63) = lN (a / 256) := pf_shr (d := 8) (by decide) ha
theorem fa_s4 {a : Nat} (ha : a < 2 ^ 31) : nI a >>> ((4 : Int32) &&& 31) = nI (a / 16) := pk_shrN ha _ 4 (by decide)
def fy_By (src : Int32) (bodies frame : Nat → Int32) (B : Nat → Int32) (L : Nat) : Prop :=
  L ≤ 60 ∧ ((src = -1 ∧ ∀ i, i < L → frame (2 + i) = B i) ∨ (∃ p, p < 6 ∧ src = nI p ∧ ∀ i, i < L → bodies (60 * p + i) = B i))
section
variable {g_begun g_opened : Int32} {g_now : Int64} {g_endings g_lost g_got g_taken g_fault g_at g_there g_source : Int32} {g_varint : Int64} {g_found : Int32} {b_kinds b_extras b_state : Nat → Int32} {b_due : Nat → Int64} {b_placeOf b_used b_bodies b_sizes b_ended b_frame : Nat → Int32}
theorem fy_byte {post : Int32 → Prop} {B : Nat → Int32} {L i : Nat} (h : fy_By g_source b_bodies b_frame B L) (hi : i < L) (K : post (B i)) : wpY_byteAt post (g_begun, g_opened, g_now, g_endings, g_lost, g_got, g_taken, g_fault, g_at, g_there, g_source, g_varint, g_found, b_kinds, b_extras, b_state, b_due, b_placeOf, b_used, b_bodies, b_sizes, b_ended, b_frame) (nI i) := by
  obtain ⟨hL, h⟩ := h
  rcases h with ⟨rfl, hf⟩ | ⟨p, hp, rfl, hb⟩
  · have e : (2 : Int32) + nI i = nI (2 + i) := nI_add 2 i
    refine br_f (by decide) (And.intro ?_ ?_)
    · rw [e]; exact vp_in_nI (by omega) (by decide)
    · rw [e, nI_clamp (by omega), hf i hi]; exact K
  · have e : (60 : Int32) * nI p + nI i = nI (60 * p + i) := by rw [show (60 : Int32) * nI p = nI (60 * p) from pk_mul 60 p, nI_add]
    refine br_t (nI_pos' (by omega)) (And.intro ?_ ?_)
    · rw [e]; exact vp_in_nI (by omega) (by decide)
    · rw [e, nI_clamp (by omega), hb i hi]; exact K
theorem fy_vaS (B : Nat → Int32) (s j : Nat) : fb_va B s j ||| (((B (s + j)).toInt64 &&& 127) <<< ((7 * nI j).toInt64 &&& 63)) = fb_va B s (j + 1) := by
  rw [fb_va, Int32.toInt64_and]; rfl
theorem fy_rvS {post : Int32 → SY → Prop} {B : Nat → Int32} {L s e j n : Nat} (h : fy_By g_source b_bodies b_frame B L) (hj : j < 10) (hs : s + j < L) (he : e < 1000)
    (K1 : 128 ≤ B (s + j) → (j = 9 ∨ s + j + 1 < e) → wY_readVarint_7 post (nI e) g_begun g_opened g_now g_endings g_lost g_got g_taken g_fault (nI L) g_source g_found b_kinds b_extras b_state b_due b_placeOf b_used b_bodies b_sizes b_ended b_frame n (nI (j + 1)) (nI (s + j + 1)) (fb_va B s (j + 1)))
    (K2 : 128 ≤ B (s + j) → j < 9 → e ≤ s + j + 1 → post 4 (g_begun, g_opened, g_now, g_endings, g_lost, g_got, g_taken, g_fault, nI (s + j + 1), nI L, g_source, fb_va B s (j + 1), g_found, b_kinds, b_extras, b_state, b_due, b_placeOf, b_used, b_bodies, b_sizes, b_ended, b_frame))
    (K3 : B (s + j) < 128 → post 0 (g_begun, g_opened, g_now, g_endings, g_lost, g_got, g_taken, g_fault, nI (s + j + 1), nI L, g_source, fb_va B s (j + 1), g_found, b_kinds, b_extras, b_state, b_due, b_placeOf, b_used, b_bodies, b_sizes, b_ended, b_frame)) :
    wY_readVarint_7 post (nI e) g_begun g_opened g_now g_endings g_lost g_got g_taken g_fault (nI L) g_source g_found b_kinds b_extras b_state b_due b_placeOf b_used b_bodies b_sizes b_ended b_frame (n + 1) (nI j) (nI (s + j)) (fb_va B s j) := by
  have hL := h.1
  refine br_f (nI_ge (b := 10) hj (by decide)) (br_t (nI_lt hs (by omega)) (nm_r (nI_1 (s + j)) (fy_byte h hs (nm_r (fy_vaS B s j) (br_c (fun hc => ?_) (fun hc => K3 (Int32.not_le.mp hc)))))))
  refine pk_le 9 j (fun h9 => nm_r (nI_1 j) (K1 hc (Or.inl (by omega)))) (fun h9 => ?_)
  exact pk_lt (s + j + 1) e (fun h1 => nm_r (nI_1 j) (K1 hc (Or.inr h1))) (fun h1 => K2 hc h9 h1)
theorem fy_rv0 {post : Int32 → SY → Prop} {B : Nat → Int32} {L s e s' : Nat} {a : Int64} (h : fy_By g_source b_bodies b_frame B L) (hv : fb_Vr B s e s' a) (hL : s' ≤ L) (he : e < 1000) (K : post 0 (g_begun, g_opened, g_now, g_endings, g_lost, g_got, g_taken, g_fault, nI s', nI L, g_source, a, g_found, b_kinds, b_extras, b_state, b_due, b_placeOf, b_used, b_bodies, b_sizes, b_ended, b_frame)) : wpY_readVarint post (g_begun, g_opened, g_now, g_endings, g_lost, g_got, g_taken, g_fault, nI s, nI L, g_source, g_varint, g_found, b_kinds, b_extras, b_state, b_due, b_placeOf, b_used, b_bodies, b_sizes, b_ended, b_frame) (nI e) := by
  obtain ⟨n, h1, h2, h3, rfl, h5, rfl⟩ := hv
  have key : ∀ d j, j + d = n → wY_readVarint_7 post (nI e) g_begun g_opened g_now g_endings g_lost g_got g_taken g_fault (nI L) g_source g_found b_kinds b_extras b_state b_due b_placeOf b_used b_bodies b_sizes b_ended b_frame (d + 1) (nI j) (nI (s + j)) (fb_va B s j) := by
    intro d
    induction d with
    | zero =>
      intro j hj
      have ej : j = n := by omega
      subst ej
      exact fy_rvS h h1 (by omega) he (fun hc => absurd h3 (Int32.not_lt.mpr hc)) (fun hc => absurd h3 (Int32.not_lt.mpr hc)) (fun _ => K)
    | succ d ih =>
      intro j hj
      have hc := h2 j (by omega)
      exact fy_rvS h (by omega) (by omega) he (fun _ _ => ih (j + 1) (by omega)) (fun _ _ _ => absurd h5 (by omega)) (fun hn => absurd hc (Int32.not_le.mpr hn))
  exact ⟨n + 1, key n 0 (by omega)⟩
theorem fy_rvW {post : Int32 → SY → Prop} {B : Nat → Int32} {L s e n : Nat} {a : Int64} (h : fy_By g_source b_bodies b_frame B L) (hv : fb_Pv B s n a) (hL : s + n = L) (hn : 0 < n → s + n < e) (he : e < 1000) (K : post (-1) (g_begun, g_opened, g_now, g_endings, g_lost, g_got, g_taken, g_fault, nI L, nI L, g_source, a, g_found, b_kinds, b_extras, b_state, b_due, b_placeOf, b_used, b_bodies, b_sizes, b_ended, b_frame)) : wpY_readVarint post (g_begun, g_opened, g_now, g_endings, g_lost, g_got, g_taken, g_fault, nI s, nI L, g_source, g_varint, g_found, b_kinds, b_extras, b_state, b_due, b_placeOf, b_used, b_bodies, b_sizes, b_ended, b_frame) (nI e) := by
  obtain ⟨h1, h2, rfl⟩ := hv
  have hL6 := h.1
  have key : ∀ d j, j + d = n → wY_readVarint_7 post (nI e) g_begun g_opened g_now g_endings g_lost g_got g_taken g_fault (nI L) g_source g_found b_kinds b_extras b_state b_due b_placeOf b_used b_bodies b_sizes b_ended b_frame (d + 1) (nI j) (nI (s + j)) (fb_va B s j) := by
    intro d
    induction d with
    | zero =>
      intro j hj
      have ej : j = n := by omega
      subst ej
      refine br_f (nI_ge (b := 10) h1 (by decide)) (br_f (nI_nlt (by omega) (by omega)) ?_)
      rw [hL]; exact K
    | succ d ih =>
      intro j hj
      have hc := h2 j (by omega)
      have hx := hn (by omega)
      exact fy_rvS h (by omega) (by omega) he (fun _ _ => ih (j + 1) (by omega)) (fun _ _ _ => absurd hx (by omega)) (fun hn => absurd hc (Int32.not_le.mpr hn))
  exact ⟨n + 1, key n 0 (by omega)⟩
theorem fy_rv4 {post : Int32 → SY → Prop} {B : Nat → Int32} {L s e n : Nat} (h : fy_By g_source b_bodies b_frame B L) (h1 : n < 9) (h2 : ∀ j, j ≤ n → 128 ≤ B (s + j)) (hE : s + n + 1 = e) (hL : e ≤ L) (he : e < 1000) (K : post 4 (g_begun, g_opened, g_now, g_endings, g_lost, g_got, g_taken, g_fault, nI e, nI L, g_source, fb_va B s (n + 1), g_found, b_kinds, b_extras, b_state, b_due, b_placeOf, b_used, b_bodies, b_sizes, b_ended, b_frame)) : wpY_readVarint post (g_begun, g_opened, g_now, g_endings, g_lost, g_got, g_taken, g_fault, nI s, nI L, g_source, g_varint, g_found, b_kinds, b_extras, b_state, b_due, b_placeOf, b_used, b_bodies, b_sizes, b_ended, b_frame) (nI e) := by
  have key : ∀ d j, j + d = n → wY_readVarint_7 post (nI e) g_begun g_opened g_now g_endings g_lost g_got g_taken g_fault (nI L) g_source g_found b_kinds b_extras b_state b_due b_placeOf b_used b_bodies b_sizes b_ended b_frame (d + 1) (nI j) (nI (s + j)) (fb_va B s j) := by
    intro d
    induction d with
    | zero =>
      intro j hj
      have ej : j = n := by omega
      subst ej
      have hc := h2 j (Nat.le_refl _)
      refine fy_rvS h (by omega) (by omega) he (fun _ hh => absurd hh (by omega)) (fun _ _ _ => ?_) (fun hn => absurd hc (Int32.not_le.mpr hn))
      rw [hE]; exact K
    | succ d ih =>
      intro j hj
      have hc := h2 j (by omega)
      exact fy_rvS h (by omega) (by omega) he (fun _ _ => ih (j + 1) (by omega)) (fun _ _ hh => absurd hh (by omega)) (fun hn => absurd hc (Int32.not_le.mpr hn))
  exact ⟨n + 1, key n 0 (by omega)⟩
theorem fy_rv3 {post : Int32 → SY → Prop} {B : Nat → Int32} {L s e : Nat} (h : fy_By g_source b_bodies b_frame B L) (h2 : ∀ j, j < 10 → 128 ≤ B (s + j)) (hE : s + 9 < e) (hL : s + 10 ≤ L) (he : e < 1000) (K : post 3 (g_begun, g_opened, g_now, g_endings, g_lost, g_got, g_taken, g_fault, nI (s + 10), nI L, g_source, fb_va B s 10, g_found, b_kinds, b_extras, b_state, b_due, b_placeOf, b_used, b_bodies, b_sizes, b_ended, b_frame)) : wpY_readVarint post (g_begun, g_opened, g_now, g_endings, g_lost, g_got, g_taken, g_fault, nI s, nI L, g_source, g_varint, g_found, b_kinds, b_extras, b_state, b_due, b_placeOf, b_used, b_bodies, b_sizes, b_ended, b_frame) (nI e) := by
  have key : ∀ d j, j + d = 10 → wY_readVarint_7 post (nI e) g_begun g_opened g_now g_endings g_lost g_got g_taken g_fault (nI L) g_source g_found b_kinds b_extras b_state b_due b_placeOf b_used b_bodies b_sizes b_ended b_frame (d + 1) (nI j) (nI (s + j)) (fb_va B s j) := by
    intro d
    induction d with
    | zero =>
      intro j hj
      have ej : j = 10 := by omega
      subst ej
      exact br_t (nI_le (a := 10) (b := 10) (Nat.le_refl _) (by decide)) K
    | succ d ih =>
      intro j hj
      have hc := h2 j (by omega)
      exact fy_rvS h (by omega) (by omega) he (fun _ _ => ih (j + 1) (by omega)) (fun _ _ hh => absurd hh (by omega)) (fun hn => absurd hc (Int32.not_le.mpr hn))
  exact ⟨11, key 10 0 (by omega)⟩
theorem fy_least {post : Int32 → Prop} {w : Nat} (hw : w < 8) (K : post (nI (fb_le w))) : wpY_least post (nI w) := by
  unfold fb_le at K
  refine pk_eq w 5 (fun h => ?_) (fun h => pk_eq w 1 (fun h1 => ?_) (fun h1 => ?_))
  · rw [if_pos h] at K; exact K
  · rw [if_neg h, if_pos h1] at K; exact K
  · rw [if_neg h, if_neg h1] at K; exact K
theorem fy_wireOf {post : Int32 → Prop} {k : Nat} (hk : k < 8) (K : post (nI (fb_wk k))) : wpY_wireOf post (nI k) := by
  unfold fb_wk at K
  refine pk_eq k 3 (fun h => ?_) (fun h => pk_eq k 5 (fun h1 => ?_) (fun h1 => pk_eq k 6 (fun h2 => ?_) (fun h2 => ?_)))
  · rw [if_pos h] at K; exact K
  · rw [if_neg h, if_pos h1] at K; exact K
  · rw [if_neg h, if_neg h1, if_pos h2] at K; exact K
  · rw [if_neg h, if_neg h1, if_neg h2] at K; exact K
def fy_Sy (sch : Nat → Nat) (kinds extras : Nat → Int32) : Prop :=
  ∀ i, i < 64 → kinds i = nI (if sch i = 0 then 0 else (sch i - 1) / 4 + 1) ∧ extras i = nI (if sch i = 0 then 0 else (sch i - 1) % 4)
theorem fy_ix (ty f : Nat) : (16 : Int32) * nI ty + nI f = nI (ty * 16 + f) := by
  rw [show (16 : Int32) * nI ty = nI (16 * ty) from pk_mul 16 ty, nI_add, Nat.mul_comm 16 ty]
theorem fy_known {post : Int32 → Prop} {sch : Nat → Nat} {ty f w : Nat} (hy : fy_Sy sch b_kinds b_extras) (hs : fb_Sc sch) (ht : ty ≤ 3) (h1 : 1 ≤ f) (hf : f < 2 ^ 31) (hw : w < 8)
    (K0 : (if f ≤ 15 then fb_kn (sch (ty * 16 + f)) w else 0) = 0 → post (-1))
    (K1 : f ≤ 15 → fb_kn (sch (ty * 16 + f)) w ≠ 0 → w = fb_wk ((sch (ty * 16 + f) - 1) / 4) → post (nI ((sch (ty * 16 + f) - 1) / 4)))
    (K2 : f ≤ 15 → fb_kn (sch (ty * 16 + f)) w ≠ 0 → w ≠ fb_wk ((sch (ty * 16 + f) - 1) / 4) → w = 2 → (sch (ty * 16 + f) - 1) % 4 = 1 → post (nI ((sch (ty * 16 + f) - 1) / 4 + 10))) :
    wpY_known post (g_begun, g_opened, g_now, g_endings, g_lost, g_got, g_taken, g_fault, g_at, g_there, g_source, g_varint, g_found, b_kinds, b_extras, b_state, b_due, b_placeOf, b_used, b_bodies, b_sizes, b_ended, b_frame) (nI ty) (nI f) (nI w) := by
  refine br_f (nI_nlt (b := 1) h1 hf) (pk_lt 15 f (fun h => K0 (if_neg (by omega))) (fun h => ?_))
  rw [if_pos h] at K0
  have hin : vp_in ((16 : Int32) * nI ty + nI f) 64 := by rw [fy_ix]; exact vp_in_nI (by omega) (by decide)
  have hcl : ((16 : Int32) * nI ty + nI f).toNatClampNeg = ty * 16 + f := by rw [fy_ix, nI_clamp (by omega)]
  obtain ⟨y1, y2⟩ := hy (ty * 16 + f) (by omega)
  obtain ⟨s1, s2⟩ := hs (ty * 16 + f)
  refine ⟨hin, ?_⟩
  rw [hcl, y1, y2]
  by_cases hz : sch (ty * 16 + f) = 0
  · rw [if_pos hz]
    exact br_t rfl (K0 (if_neg (fun z => z.1 hz)))
  · rw [if_neg hz, if_neg hz]
    refine br_f (nI_ne0 (by omega) (by omega)) ⟨hin, nm_r (nI_pred _) (fy_wireOf (by omega) ?_)⟩
    by_cases hk : w = fb_wk ((sch (ty * 16 + f) - 1) / 4)
    · refine br_t (congrArg nI hk) (K1 h ?_ hk)
      have e : fb_kn (sch (ty * 16 + f)) w = sch (ty * 16 + f) := if_pos ⟨hz, Or.inl hk⟩
      rw [e]; exact hz
    · have hwk : fb_wk ((sch (ty * 16 + f) - 1) / 4) < 8 := by unfold fb_wk; split <;> (try split) <;> (try split) <;> decide
      refine br_f (fun z => hk ((nI_eq (by omega) (by omega)).mp z)) (pk_eq w 2 (fun h2 => ⟨hin, ?_⟩) (fun h2 => K0 (if_neg ?_)))
      · refine pk_eq ((sch (ty * 16 + f) - 1) % 4) 1 (fun he => ?_) (fun he => K0 (if_neg ?_))
        · rw [show (10 : Int32) = nI 10 from rfl, nI_add]
          refine K2 h ?_ hk h2 he
          have e : fb_kn (sch (ty * 16 + f)) w = sch (ty * 16 + f) := if_pos ⟨hz, Or.inr ⟨h2, by omega⟩⟩
          rw [e]; exact hz
        · rintro ⟨z1, z2 | z2⟩
          · exact hk z2
          · rcases s2 with s2 | s2
            · rw [s2] at hk; exact hk h2
            · omega
      · rintro ⟨z1, z2 | z2⟩
        · exact hk z2
        · exact h2 z2.1
end
end
section
/-! the reference's check of one entry -/
section
variable {g_begun g_opened : Int32} {g_now : Int64} {g_endings g_lost g_got g_taken g_fault g_at g_there g_source : Int32} {g_varint : Int64} {g_found : Int32} {b_kinds b_extras b_state : Nat → Int32} {b_due : Nat → Int64} {b_placeOf b_used b_bodies b_sizes b_ended b_frame : Nat → Int32}
theorem fy_ceK {post : Int32 → SY → Prop} {B : Nat → Int32} {L s e s1 ty lvl : Nat} {a : Int64} (h : fy_By g_source b_bodies b_frame B L) (hv : fb_Vr B s e s1 a) (hL : s1 ≤ L) (he : e < 1000) (hf : fb_f a ≠ 0) (hw : fb_w a = 0 ∨ fb_w a = 1 ∨ fb_w a = 2 ∨ fb_w a = 5)
    (K : wY_checkEntry_64 post (nI ty) (nI e) (nI lvl) (nI (fb_f a)) (nI (fb_w a)) g_begun g_opened g_now g_endings g_lost g_got g_taken g_fault (nI s1) (nI L) g_source a g_found b_kinds b_extras b_state b_due b_placeOf b_used b_bodies b_sizes b_ended b_frame) : wpY_checkEntry post (g_begun, g_opened, g_now, g_endings, g_lost, g_got, g_taken, g_fault, nI s, nI L, g_source, g_varint, g_found, b_kinds, b_extras, b_state, b_due, b_placeOf, b_used, b_bodies, b_sizes, b_ended, b_frame) (nI ty) (nI e) (nI lvl) := by
  have h8 := fb_wlt a
  have hfl := fb_flt a
  refine fy_rv0 (g_varint := g_varint) h hv hL he (br_t rfl (nm_r (fb_fE a) (nm_r (fb_wE a) (br_f (nI_ne0 (by omega) (by omega)) ?_))))
  refine pk_eq (fb_w a) 0 (fun _ => K) (fun n0 => pk_eq (fb_w a) 1 (fun _ => K) (fun n1 => pk_eq (fb_w a) 2 (fun _ => K) (fun n2 => pk_eq (fb_w a) 5 (fun _ => K) (fun n5 => ?_))))
  omega
theorem fy_ceT {post : Int32 → SY → Prop} {B : Nat → Int32} {L s e s1 ty lvl : Nat} {a : Int64} (h : fy_By g_source b_bodies b_frame B L) (hv : fb_Vr B s e s1 a) (hL : s1 ≤ L) (he : e < 1000) (hf : fb_f a = 0 ∨ ¬ (fb_w a = 0 ∨ fb_w a = 1 ∨ fb_w a = 2 ∨ fb_w a = 5))
    (K : post 2 (g_begun, g_opened, g_now, g_endings, g_lost, g_got, g_taken, g_fault, nI s1, nI L, g_source, a, g_found, b_kinds, b_extras, b_state, b_due, b_placeOf, b_used, b_bodies, b_sizes, b_ended, b_frame)) : wpY_checkEntry post (g_begun, g_opened, g_now, g_endings, g_lost, g_got, g_taken, g_fault, nI s, nI L, g_source, g_varint, g_found, b_kinds, b_extras, b_state, b_due, b_placeOf, b_used, b_bodies, b_sizes, b_ended, b_frame) (nI ty) (nI e) (nI lvl) := by
  have h8 := fb_wlt a
  have hfl := fb_flt a
  refine fy_rv0 (g_varint := g_varint) h hv hL he (br_t rfl (nm_r (fb_fE a) (nm_r (fb_wE a) ?_)))
  refine pk_eq (fb_f a) 0 (fun _ => K) (fun n0 => ?_)
  refine pk_eq (fb_w a) 0 (fun _ => ?_) (fun n0 => pk_eq (fb_w a) 1 (fun _ => ?_) (fun n1 => pk_eq (fb_w a) 2 (fun _ => ?_) (fun n2 => pk_eq (fb_w a) 5 (fun _ => ?_) (fun n5 => K)))) <;> omega
theorem fy_ceR {post : Int32 → SY → Prop} {r at' : Int32} {v' : Int64} {L s e ty lvl : Nat}
    (R : ∀ q : Int32 → SY → Prop, q r (g_begun, g_opened, g_now, g_endings, g_lost, g_got, g_taken, g_fault, at', nI L, g_source, v', g_found, b_kinds, b_extras, b_state, b_due, b_placeOf, b_used, b_bodies, b_sizes, b_ended, b_frame) → wpY_readVarint q (g_begun, g_opened, g_now, g_endings, g_lost, g_got, g_taken, g_fault, nI s, nI L, g_source, g_varint, g_found, b_kinds, b_extras, b_state, b_due, b_placeOf, b_used, b_bodies, b_sizes, b_ended, b_frame) (nI e)) (hr : ¬ r = 0)
    (K : post r (g_begun, g_opened, g_now, g_endings, g_lost, g_got, g_taken, g_fault, at', nI L, g_source, v', g_found, b_kinds, b_extras, b_state, b_due, b_placeOf, b_used, b_bodies, b_sizes, b_ended, b_frame)) : wpY_checkEntry post (g_begun, g_opened, g_now, g_endings, g_lost, g_got, g_taken, g_fault, nI s, nI L, g_source, g_varint, g_found, b_kinds, b_extras, b_state, b_due, b_placeOf, b_used, b_bodies, b_sizes, b_ended, b_frame) (nI ty) (nI e) (nI lvl) :=
  R _ (br_f hr K)
theorem fy_c64s {post : Int32 → SY → Prop} {e ty lvl f w s1 : Nat} (hw : w < 8) (h1 : s1 ≤ e) (he : e < 1000) (h : e < s1 + fb_le w) (K : post 4 (g_begun, g_opened, g_now, g_endings, g_lost, g_got, g_taken, g_fault, nI s1, g_there, g_source, g_varint, g_found, b_kinds, b_extras, b_state, b_due, b_placeOf, b_used, b_bodies, b_sizes, b_ended, b_frame)) : wY_checkEntry_64 post (nI ty) (nI e) (nI lvl) (nI f) (nI w) g_begun g_opened g_now g_endings g_lost g_got g_taken g_fault (nI s1) g_there g_source g_varint g_found b_kinds b_extras b_state b_due b_placeOf b_used b_bodies b_sizes b_ended b_frame := by
  have hl := fb_le1 w
  refine fy_least hw (br_f ?_ K)
  rw [pk_sub h1]
  exact nI_ge (by omega) (by omega)
theorem fy_c640 {post : Int32 → SY → Prop} {r at' : Int32} {v' : Int64} {e ty lvl f s1 : Nat} (h1 : s1 + 1 ≤ e) (he : e < 1000)
    (R : ∀ q : Int32 → SY → Prop, q r (g_begun, g_opened, g_now, g_endings, g_lost, g_got, g_taken, g_fault, at', g_there, g_source, v', g_found, b_kinds, b_extras, b_state, b_due, b_placeOf, b_used, b_bodies, b_sizes, b_ended, b_frame) → wpY_readVarint q (g_begun, g_opened, g_now, g_endings, g_lost, g_got, g_taken, g_fault, nI s1, g_there, g_source, g_varint, g_found, b_kinds, b_extras, b_state, b_due, b_placeOf, b_used, b_bodies, b_sizes, b_ended, b_frame) (nI e))
    (K : post r (g_begun, g_opened, g_now, g_endings, g_lost, g_got, g_taken, g_fault, at', g_there, g_source, v', g_found, b_kinds, b_extras, b_state, b_due, b_placeOf, b_used, b_bodies, b_sizes, b_ended, b_frame)) : wY_checkEntry_64 post (nI ty) (nI e) (nI lvl) (nI f) (nI 0) g_begun g_opened g_now g_endings g_lost g_got g_taken g_fault (nI s1) g_there g_source g_varint g_found b_kinds b_extras b_state b_due b_placeOf b_used b_bodies b_sizes b_ended b_frame := by
  refine fy_least (by decide) (br_t ?_ (br_t rfl (R _ K)))
  rw [pk_sub (by omega)]
  exact nI_le (a := 1) (by omega) (by omega)
theorem fy_c64f {post : Int32 → SY → Prop} {e ty lvl f w s1 : Nat} (hw : w = 1 ∨ w = 5) (h1 : s1 + fb_le w ≤ e) (he : e < 1000) (K : post 0 (g_begun, g_opened, g_now, g_endings, g_lost, g_got, g_taken, g_fault, nI (s1 + fb_le w), g_there, g_source, g_varint, g_found, b_kinds, b_extras, b_state, b_due, b_placeOf, b_used, b_bodies, b_sizes, b_ended, b_frame)) : wY_checkEntry_64 post (nI ty) (nI e) (nI lvl) (nI f) (nI w) g_begun g_opened g_now g_endings g_lost g_got g_taken g_fault (nI s1) g_there g_source g_varint g_found b_kinds b_extras b_state b_due b_placeOf b_used b_bodies b_sizes b_ended b_frame := by
  have hl := fb_le1 w
  refine fy_least (by omega) (br_t ?_ (br_f (nI_ne0 (by omega) (by omega)) (br_f ?_ (fy_least (by omega) (nm_r (nI_add _ _) K)))))
  · rw [pk_sub (by omega)]; exact nI_le (by omega) (by omega)
  · intro z
    have := (nI_eq (b := 2) (by omega) (by omega)).mp z
    omega
theorem fy_c64e {post : Int32 → SY → Prop} {r at' : Int32} {v' : Int64} {e ty lvl f s1 : Nat} (h1 : s1 + 1 ≤ e) (he : e < 1000)
    (R : ∀ q : Int32 → SY → Prop, q r (g_begun, g_opened, g_now, g_endings, g_lost, g_got, g_taken, g_fault, at', g_there, g_source, v', g_found, b_kinds, b_extras, b_state, b_due, b_placeOf, b_used, b_bodies, b_sizes, b_ended, b_frame) → wpY_readVarint q (g_begun, g_opened, g_now, g_endings, g_lost, g_got, g_taken, g_fault, nI s1, g_there, g_source, g_varint, g_found, b_kinds, b_extras, b_state, b_due, b_placeOf, b_used, b_bodies, b_sizes, b_ended, b_frame) (nI e)) (hr : ¬ r = 0)
    (K : post r (g_begun, g_opened, g_now, g_endings, g_lost, g_got, g_taken, g_fault, at', g_there, g_source, v', g_found, b_kinds, b_extras, b_state, b_due, b_placeOf, b_used, b_bodies, b_sizes, b_ended, b_frame)) : wY_checkEntry_64 post (nI ty) (nI e) (nI lvl) (nI f) (nI 2) g_begun g_opened g_now g_endings g_lost g_got g_taken g_fault (nI s1) g_there g_source g_varint g_found b_kinds b_extras b_state b_due b_placeOf b_used b_bodies b_sizes b_ended b_frame := by
  refine fy_least (by decide) (br_t ?_ (br_f (nI_ne0 (by decide) (by decide)) (br_t rfl (R _ (br_f hr K)))))
  rw [pk_sub (by omega)]
  exact nI_le (a := 1) (by omega) (by omega)
theorem fy_c64n {post : Int32 → SY → Prop} {v' : Int64} {e ty lvl f s1 s2 : Nat} (h1 : s1 + 1 ≤ e) (h2 : s2 ≤ e) (he : e < 1000)
    (R : ∀ q : Int32 → SY → Prop, q 0 (g_begun, g_opened, g_now, g_endings, g_lost, g_got, g_taken, g_fault, nI s2, g_there, g_source, v', g_found, b_kinds, b_extras, b_state, b_due, b_placeOf, b_used, b_bodies, b_sizes, b_ended, b_frame) → wpY_readVarint q (g_begun, g_opened, g_now, g_endings, g_lost, g_got, g_taken, g_fault, nI s1, g_there, g_source, g_varint, g_found, b_kinds, b_extras, b_state, b_due, b_placeOf, b_used, b_bodies, b_sizes, b_ended, b_frame) (nI e)) (hr : v' < 0 ∨ ¬ v' ≤ (nI (e - s2)).toInt64)
    (K : post 4 (g_begun, g_opened, g_now, g_endings, g_lost, g_got, g_taken, g_fault, nI s2, g_there, g_source, v', g_found, b_kinds, b_extras, b_state, b_due, b_placeOf, b_used, b_bodies, b_sizes, b_ended, b_frame)) : wY_checkEntry_64 post (nI ty) (nI e) (nI lvl) (nI f) (nI 2) g_begun g_opened g_now g_endings g_lost g_got g_taken g_fault (nI s1) g_there g_source g_varint g_found b_kinds b_extras b_state b_due b_placeOf b_used b_bodies b_sizes b_ended b_frame := by
  refine fy_least (by decide) (br_t ?_ (br_f (nI_ne0 (by decide) (by decide)) (br_t rfl (R _ (br_t rfl (br_c (fun _ => K) (fun hn => br_f ?_ K)))))))
  · rw [pk_sub (by omega)]; exact nI_le (a := 1) (by omega) (by omega)
  · rw [pk_sub h2]; exact hr.elim (fun z => absurd z hn) id
theorem fa_lrem {n d : Nat} (hn : n < 1000) (h0 : 0 < d) (hd : d < 1000) : (lN n - lN n / lN d * lN d = 0) ↔ n % d = 0 := by
  rw [pk_lRem (by omega) h0 (by omega), show (0 : Int64) = lN 0 from rfl]
  have := Nat.mod_lt n h0
  exact lN_eq (by omega) (by decide)
theorem fy_c64c {post : Int32 → SY → Prop} {sch : Nat → Nat} {e ty lvl s1 s2 n : Nat} {a : Int64} (hy : fy_Sy sch b_kinds b_extras) (hs : fb_Sc sch) (ht : ty ≤ 3) (hf : fb_f a ≠ 0) (hw : fb_w a = 2) (h1 : s1 + 1 ≤ e) (h2 : s2 + n ≤ e) (he : e < 1000) (hl : lvl < 100)
    (R : ∀ q : Int32 → SY → Prop, q 0 (g_begun, g_opened, g_now, g_endings, g_lost, g_got, g_taken, g_fault, nI s2, g_there, g_source, lN n, g_found, b_kinds, b_extras, b_state, b_due, b_placeOf, b_used, b_bodies, b_sizes, b_ended, b_frame) → wpY_readVarint q (g_begun, g_opened, g_now, g_endings, g_lost, g_got, g_taken, g_fault, nI s1, g_there, g_source, g_varint, g_found, b_kinds, b_extras, b_state, b_due, b_placeOf, b_used, b_bodies, b_sizes, b_ended, b_frame) (nI e))
    (K0 : fb_ky sch ty a = 0 → post 0 (g_begun, g_opened, g_now, g_endings, g_lost, g_got, g_taken, g_fault, nI (s2 + n), g_there, g_source, lN n, g_found, b_kinds, b_extras, b_state, b_due, b_placeOf, b_used, b_bodies, b_sizes, b_ended, b_frame))
    (K6 : fb_ky sch ty a ≠ 0 → (fb_ky sch ty a - 1) / 4 = 6 → (lvl = 3 → post 5 (g_begun, g_opened, g_now, g_endings, g_lost, g_got, g_taken, g_fault, nI s2, g_there, g_source, lN n, g_found, b_kinds, b_extras, b_state, b_due, b_placeOf, b_used, b_bodies, b_sizes, b_ended, b_frame)) ∧ (lvl ≠ 3 → post (-2) (g_begun, g_opened, g_now, g_endings, g_lost, g_got, g_taken, g_fault, nI s2, g_there, g_source, lN n, nI ((fb_ky sch ty a - 1) % 4), b_kinds, b_extras, b_state, b_due, b_placeOf, b_used, b_bodies, b_sizes, b_ended, b_frame)))
    (KB : fb_ky sch ty a ≠ 0 → ((fb_ky sch ty a - 1) / 4 = 3 ∧ n % 4 ≠ 0) ∨ ((fb_ky sch ty a - 1) / 4 = 5 ∧ n % 8 ≠ 0) → post 4 (g_begun, g_opened, g_now, g_endings, g_lost, g_got, g_taken, g_fault, nI s2, g_there, g_source, lN n, g_found, b_kinds, b_extras, b_state, b_due, b_placeOf, b_used, b_bodies, b_sizes, b_ended, b_frame))
    (KF : fb_ky sch ty a ≠ 0 → ((fb_ky sch ty a - 1) / 4 = 3 ∧ n % 4 = 0) ∨ ((fb_ky sch ty a - 1) / 4 = 5 ∧ n % 8 = 0) → post 0 (g_begun, g_opened, g_now, g_endings, g_lost, g_got, g_taken, g_fault, nI (s2 + n), g_there, g_source, lN n, g_found, b_kinds, b_extras, b_state, b_due, b_placeOf, b_used, b_bodies, b_sizes, b_ended, b_frame))
    (KP : fb_ky sch ty a ≠ 0 → (fb_ky sch ty a - 1) / 4 ≠ 6 → (fb_ky sch ty a - 1) / 4 ≠ 3 → (fb_ky sch ty a - 1) / 4 ≠ 5 → post (-2) (g_begun, g_opened, g_now, g_endings, g_lost, g_got, g_taken, g_fault, nI s2, g_there, g_source, lN n, 15, b_kinds, b_extras, b_state, b_due, b_placeOf, b_used, b_bodies, b_sizes, b_ended, b_frame)) :
    wY_checkEntry_64 post (nI ty) (nI e) (nI lvl) (nI (fb_f a)) (nI 2) g_begun g_opened g_now g_endings g_lost g_got g_taken g_fault (nI s1) g_there g_source g_varint g_found b_kinds b_extras b_state b_due b_placeOf b_used b_bodies b_sizes b_ended b_frame := by
  have hfl := fb_flt a
  refine fy_least (by decide) (br_t ?_ (br_f (nI_ne0 (by decide) (by decide)) (br_t rfl (R _ (br_t rfl (br_f ?_ (br_t ?_ ?_)))))))
  · rw [pk_sub (by omega)]; exact nI_le (a := 1) (by omega) (by omega)
  · intro z
    have := (lN_lt (a := n) (b := 0) (by omega) (by decide)).mp z
    omega
  · rw [pk_sub (by omega), nI_l (by omega)]; exact (lN_le (by omega) (by omega)).mpr (by omega)
  have ek : fb_ky sch ty a = if fb_f a ≤ 15 then fb_kn (sch (ty * 16 + fb_f a)) 2 else 0 := by unfold fb_ky; rw [hw]
  have hadd : nI s2 + (lN n).toInt32 = nI (s2 + n) := by rw [lN_i, nI_add]
  refine fy_known (w := 2) hy hs ht (by omega) (by omega) (by decide) (fun hk => ?_) (fun hf5 hk hwk => ?_) (fun hf5 hk hwk _ hx => ?_)
  · refine br_f (by decide) (br_f (by decide) (br_f (by decide) (br_f (by decide) (br_t (by decide) (nm_r hadd (K0 (ek.trans hk)))))))
  · have ek2 : fb_ky sch ty a = sch (ty * 16 + fb_f a) := by
      have h := (fb_kyE (sch := sch) (ty := ty) (a := a) (by rw [ek, if_pos hf5]; exact hk)).2.1
      exact h.symm
    have hz : fb_ky sch ty a ≠ 0 := by rw [ek, if_pos hf5]; exact hk
    have h6 : (sch (ty * 16 + fb_f a) - 1) / 4 = 6 := fb_wk2 hwk.symm
    rw [h6]
    rw [ek2] at K6
    obtain ⟨k3, kn⟩ := K6 (by rw [← ek2]; exact hz) h6
    have hin : vp_in ((16 : Int32) * nI ty + nI (fb_f a)) 64 := by rw [fy_ix]; exact vp_in_nI (by omega) (by decide)
    have hcl : ((16 : Int32) * nI ty + nI (fb_f a)).toNatClampNeg = ty * 16 + fb_f a := by rw [fy_ix, nI_clamp (by omega)]
    have hx : b_extras ((16 : Int32) * nI ty + nI (fb_f a)).toNatClampNeg = nI ((sch (ty * 16 + fb_f a) - 1) % 4) := by
      rw [hcl, (hy _ (by omega)).2, if_neg (by rw [← ek2]; exact hz)]
    refine br_f (by decide) (br_f (by decide) (br_t rfl (pk_eq lvl 3 k3 (fun hn => br_t rfl (br_t rfl ⟨hin, nm_r hx (kn hn)⟩)))))
  · have ek2 : fb_ky sch ty a = sch (ty * 16 + fb_f a) := by
      have h := (fb_kyE (sch := sch) (ty := ty) (a := a) (by rw [ek, if_pos hf5]; exact hk)).2.1
      exact h.symm
    have hz : sch (ty * 16 + fb_f a) ≠ 0 := by rw [← ek2, ek, if_pos hf5]; exact hk
    have h6 : (sch (ty * 16 + fb_f a) - 1) / 4 ≠ 6 := by
      intro z; rw [z] at hwk; exact hwk rfl
    rw [ek2] at KB KF KP
    obtain ⟨s1', _⟩ := hs (ty * 16 + fb_f a)
    generalize hg : (sch (ty * 16 + fb_f a) - 1) / 4 = k at *
    have hk7 : k < 7 := by omega
    have l4 : (lN n - lN n / 4 * 4 = 0) ↔ n % 4 = 0 := fa_lrem (d := 4) (by omega) (by decide) (by decide)
    have l8 : (lN n - lN n / 8 * 8 = 0) ↔ n % 8 = 0 := fa_lrem (d := 8) (by omega) (by decide) (by decide)
    by_cases h3 : k = 3
    · subst h3
      refine br_t rfl ⟨by decide, br_c (fun z => ?_) (fun z => KB hz (Or.inl ⟨rfl, fun y => z (l4.mpr y)⟩))⟩
      have z' := l4.mp z
      exact br_f (by decide) (br_f (by decide) (br_f (by decide) (br_f (by decide) (br_t rfl (nm_r hadd (KF hz (Or.inl ⟨rfl, z'⟩)))))))
    · by_cases h5 : k = 5
      · subst h5
        refine br_f (by decide) (br_t rfl ⟨by decide, br_c (fun z => ?_) (fun z => KB hz (Or.inr ⟨rfl, fun y => z (l8.mpr y)⟩))⟩)
        have z' := l8.mp z
        exact br_f (by decide) (br_f (by decide) (br_f (by decide) (br_f (by decide) (br_t rfl (nm_r hadd (KF hz (Or.inr ⟨rfl, z'⟩)))))))
      · have n13 : ¬ nI (k + 10) = 13 := fun z => h3 (by have := (nI_eq (b := 13) (by omega) (by decide)).mp z; omega)
        have n15 : ¬ nI (k + 10) = 15 := fun z => h5 (by have := (nI_eq (b := 15) (by omega) (by decide)).mp z; omega)
        have n6 : ¬ nI (k + 10) = 6 := fun z => by have := (nI_eq (b := 6) (by omega) (by decide)).mp z; omega
        have n10 : ¬ nI (k + 10) < 10 := nI_nlt (b := 10) (by omega) (by omega)
        exact br_f n13 (br_f n15 (br_f n6 (br_f n6 (br_f n10 (br_f n13 (br_f n15 (br_f n6 (KP hz h6 h3 h5))))))))
end
end
section
/-! the reference's check, along a reading -/
def fy_eT : fb_Stk → Nat
  | [] => 0
  | x :: r => fy_eT r * 16 + x.2.1
def fy_eE : fb_Stk → Nat
  | [] => 0
  | x :: r => fy_eE r * 256 + x.1
theorem fy_enc {sch : Nat → Nat} {sz s : Nat} {stk : fb_Stk} (h : fb_WS sch sz s stk) (hz : sz ≤ 60) : stk.length ≤ 3 ∧ fy_eT stk < 16 ^ stk.length ∧ fy_eE stk < 256 ^ stk.length := by
  rcases h with ⟨rfl, _⟩ | ⟨rfl, _⟩ | ⟨e, t, f, rfl, h1, h2, h3⟩ | ⟨e2, t2, g, e, t, f, rfl, h1, h2, h3, h4, h5⟩
  · decide
  · refine ⟨by simp, ?_, ?_⟩
    · simp only [fy_eT, List.length_cons, List.length_nil]; omega
    · simp only [fy_eE, List.length_cons, List.length_nil]; omega
  · obtain ⟨_, _, a3, _⟩ := h3
    refine ⟨by simp, ?_, ?_⟩
    · simp only [fy_eT, List.length_cons, List.length_nil]; omega
    · simp only [fy_eE, List.length_cons, List.length_nil]; omega
  · obtain ⟨_, _, a3, _⟩ := h4
    obtain ⟨_, _, b3, _⟩ := h5
    refine ⟨by simp, ?_, ?_⟩
    · simp only [fy_eT, List.length_cons, List.length_nil]; omega
    · simp only [fy_eE, List.length_cons, List.length_nil]; omega
theorem fy_enc2 {sch : Nat → Nat} {sz s : Nat} {stk : fb_Stk} (h : fb_WS sch sz s stk) (hz : sz ≤ 60) : stk.length ≤ 3 ∧ fy_eT stk < 4096 ∧ fy_eE stk < 16777216 := by
  obtain ⟨h1, h2, h3⟩ := fy_enc h hz
  have a1 : 16 ^ stk.length ≤ 16 ^ 3 := Nat.pow_le_pow_right (by decide) h1
  have a2 : 256 ^ stk.length ≤ 256 ^ 3 := Nat.pow_le_pow_right (by decide) h1
  have e1 : (16 : Nat) ^ 3 = 4096 := by decide
  have e2 : (256 : Nat) ^ 3 = 16777216 := by decide
  omega
/-- where the check stands when a reading has come to s -/
def fy_Cn (s : Nat) (stk : fb_Stk) (pk : Option (Nat × Nat × Nat)) (at' lvl T E : Nat) : Prop :=
  (pk = none ∧ at' = s ∧ lvl = stk.length ∧ T = fy_eT stk ∧ E = fy_eE stk) ∨
  (∃ pe en f, pk = some (pe, en, f) ∧ ((en - 1) / 4 = 3 ∨ (en - 1) / 4 = 5) ∧ at' = pe ∧ lvl = stk.length ∧ T = fy_eT stk ∧ E = fy_eE stk) ∨
  (∃ pe en f, pk = some (pe, en, f) ∧ ¬ ((en - 1) / 4 = 3 ∨ (en - 1) / 4 = 5) ∧ at' = s ∧ lvl = stk.length + 1 ∧ T = fy_eT stk * 16 + 15 ∧ E = fy_eE stk * 256 + pe)
section
variable {g_begun g_opened : Int32} {g_now : Int64} {g_endings g_lost g_got g_taken g_fault g_at g_there g_source : Int32} {g_varint : Int64} {g_found : Int32} {b_kinds b_extras b_state : Nat → Int32} {b_due : Nat → Int64} {b_placeOf b_used b_bodies b_sizes b_ended b_frame : Nat → Int32}
theorem fy_ckE {post : Int32 → SY → Prop} {r at' : Int32} {v' : Int64} {f' : Int32} {n L lvl T E st s e ty : Nat} (hst : st < 200) (hL : s < L) (hL6 : L ≤ 60) (hE : E % 256 = e) (hEb : E < 2 ^ 40) (hT : T % 16 = ty) (hTb : T < 2 ^ 20) (hse : s < e) (hty : ty ≤ 3)
    (R : ∀ q : Int32 → SY → Prop, q r (g_begun, g_opened, g_now, g_endings, g_lost, g_got, g_taken, g_fault, at', nI L, g_source, v', f', b_kinds, b_extras, b_state, b_due, b_placeOf, b_used, b_bodies, b_sizes, b_ended, b_frame) → wpY_checkEntry q (g_begun, g_opened, g_now, g_endings, g_lost, g_got, g_taken, g_fault, nI s, nI L, g_source, g_varint, g_found, b_kinds, b_extras, b_state, b_due, b_placeOf, b_used, b_bodies, b_sizes, b_ended, b_frame) (nI ty) (nI e) (nI lvl))
    (K : wY_check_117 post (wY_check_35 post n) (nI lvl) (nI T) (lN E) (nI st) r g_begun g_opened g_now g_endings g_lost g_got g_taken g_fault at' (nI L) g_source v' f' b_kinds b_extras b_state b_due b_placeOf b_used b_bodies b_sizes b_ended b_frame) :
    wY_check_35 post (n + 1) (nI lvl) (nI T) (lN E) (nI st) g_begun g_opened g_now g_endings g_lost g_got g_taken g_fault (nI s) (nI L) g_source g_varint g_found b_kinds b_extras b_state b_due b_placeOf b_used b_bodies b_sizes b_ended b_frame := by
  have e1 : (lN E &&& 255).toInt32 = nI e := by rw [fa_m256 (by omega), hE]
  have e2 : nI T &&& 15 = nI ty := by rw [fa_m16 (by omega), hT]
  refine br_f (nI_ge (b := 200) hst (by decide)) (br_f (nI_ge hL (by omega)) (nm_r e1 (br_f ?_ (nm_r e2 (br_f ?_ (R _ K))))))
  · intro z
    have := (nI_eq (by omega) (by omega)).mp z
    omega
  · intro z
    have := (nI_eq (b := 15) (by omega) (by omega)).mp z
    omega
theorem fy_ckP {post : Int32 → SY → Prop} {r at' : Int32} {v' : Int64} {n L lvl T E st s e : Nat} (hst : st < 200) (hL : s < L) (hL6 : L ≤ 60) (hE : E % 256 = e) (hEb : E < 2 ^ 40) (hT : T % 16 = 15) (hTb : T < 2 ^ 20) (hse : s < e)
    (R : ∀ q : Int32 → SY → Prop, q r (g_begun, g_opened, g_now, g_endings, g_lost, g_got, g_taken, g_fault, at', nI L, g_source, v', g_found, b_kinds, b_extras, b_state, b_due, b_placeOf, b_used, b_bodies, b_sizes, b_ended, b_frame) → wpY_readVarint q (g_begun, g_opened, g_now, g_endings, g_lost, g_got, g_taken, g_fault, nI s, nI L, g_source, g_varint, g_found, b_kinds, b_extras, b_state, b_due, b_placeOf, b_used, b_bodies, b_sizes, b_ended, b_frame) (nI e))
    (K : wY_check_117 post (wY_check_35 post n) (nI lvl) (nI T) (lN E) (nI st) r g_begun g_opened g_now g_endings g_lost g_got g_taken g_fault at' (nI L) g_source v' g_found b_kinds b_extras b_state b_due b_placeOf b_used b_bodies b_sizes b_ended b_frame) :
    wY_check_35 post (n + 1) (nI lvl) (nI T) (lN E) (nI st) g_begun g_opened g_now g_endings g_lost g_got g_taken g_fault (nI s) (nI L) g_source g_varint g_found b_kinds b_extras b_state b_due b_placeOf b_used b_bodies b_sizes b_ended b_frame := by
  have e1 : (lN E &&& 255).toInt32 = nI e := by rw [fa_m256 (by omega), hE]
  have e2 : nI T &&& 15 = nI 15 := by rw [fa_m16 (by omega), hT]
  refine br_f (nI_ge (b := 200) hst (by decide)) (br_f (nI_ge hL (by omega)) (nm_r e1 (br_f ?_ (nm_r e2 (br_t rfl (R _ K))))))
  · intro z
    have := (nI_eq (by omega) (by omega)).mp z
    omega
theorem fy_ckO {post : Int32 → SY → Prop} {n L lvl T E st s : Nat} (hst : st < 200) (hL : s < L) (hL6 : L ≤ 60) (hE : E % 256 = s) (hEb : E < 2 ^ 40) (hTb : T < 2 ^ 20)
    (K : wY_check_35 post n (nI lvl) (nI (T / 16)) (lN (E / 256)) (nI (st + 1)) g_begun g_opened g_now g_endings g_lost g_got g_taken g_fault (nI s) (nI L) g_source g_varint g_found b_kinds b_extras b_state b_due b_placeOf b_used b_bodies b_sizes b_ended b_frame) :
    wY_check_35 post (n + 1) (nI (lvl + 1)) (nI T) (lN E) (nI st) g_begun g_opened g_now g_endings g_lost g_got g_taken g_fault (nI s) (nI L) g_source g_varint g_found b_kinds b_extras b_state b_due b_placeOf b_used b_bodies b_sizes b_ended b_frame := by
  have e1 : (lN E &&& 255).toInt32 = nI s := by rw [fa_m256 (by omega), hE]
  exact br_f (nI_ge (b := 200) hst (by decide)) (br_f (nI_ge hL (by omega)) (nm_r e1 (br_t rfl (nm_r (pk_m1 lvl) (nm_r (fa_s8 (by omega)) (nm_r (fa_s4 (by omega)) (nm_r (nI_1 st) K)))))))
theorem fy_ckX {post : Int32 → SY → Prop} {n L lvl T E st s : Nat} (hst : st < 200) (hL : L ≤ s) (hs : s < 2 ^ 31) (K : post 0 (g_begun, g_opened, g_now, g_endings, g_lost, g_got, g_taken, g_fault, nI s, nI L, g_source, g_varint, g_found, b_kinds, b_extras, b_state, b_due, b_placeOf, b_used, b_bodies, b_sizes, b_ended, b_frame)) :
    wY_check_35 post (n + 1) (nI lvl) (nI T) (lN E) (nI st) g_begun g_opened g_now g_endings g_lost g_got g_taken g_fault (nI s) (nI L) g_source g_varint g_found b_kinds b_extras b_state b_due b_placeOf b_used b_bodies b_sizes b_ended b_frame :=
  br_f (nI_ge (b := 200) hst (by decide)) (br_t (nI_le hL hs) K)
theorem fy_17z {post : Int32 → SY → Prop} {n lvl T E st : Nat} (K : wY_check_35 post n (nI lvl) (nI T) (lN E) (nI (st + 1)) g_begun g_opened g_now g_endings g_lost g_got g_taken g_fault g_at g_there g_source g_varint g_found b_kinds b_extras b_state b_due b_placeOf b_used b_bodies b_sizes b_ended b_frame) : wY_check_117 post (wY_check_35 post n) (nI lvl) (nI T) (lN E) (nI st) 0 g_begun g_opened g_now g_endings g_lost g_got g_taken g_fault g_at g_there g_source g_varint g_found b_kinds b_extras b_state b_due b_placeOf b_used b_bodies b_sizes b_ended b_frame :=
  br_f (by decide) (br_t rfl (nm_r (nI_1 st) K))
theorem fy_17p {post : Int32 → SY → Prop} {n lvl T E st s m t : Nat} (hT : T < 2 ^ 20) (hE : E < 2 ^ 40) (ht : t < 16) (hm : s + m < 256) (K : wY_check_35 post n (nI (lvl + 1)) (nI (T * 16 + t)) (lN (E * 256 + (s + m))) (nI (st + 1)) g_begun g_opened g_now g_endings g_lost g_got g_taken g_fault (nI s) g_there g_source (lN m) (nI t) b_kinds b_extras b_state b_due b_placeOf b_used b_bodies b_sizes b_ended b_frame) : wY_check_117 post (wY_check_35 post n) (nI lvl) (nI T) (lN E) (nI st) (-2) g_begun g_opened g_now g_endings g_lost g_got g_taken g_fault (nI s) g_there g_source (lN m) (nI t) b_kinds b_extras b_state b_due b_placeOf b_used b_bodies b_sizes b_ended b_frame := by
  refine br_t rfl (nm_r (nI_1 lvl) (nm_r (fa_or16 ht hT) (nm_r ?_ (nm_r (nI_1 st) K))))
  rw [lN_i, nI_add, nI_l (by omega)]
  exact fa_or256 hm hE
theorem fy_17w {post : Int32 → SY → Prop} {J : Int32 → Int32 → Int64 → Int32 → Int32 → Int32 → Int64 → Int32 → Int32 → Int32 → Int32 → Int32 → Int32 → Int32 → Int32 → Int64 → Int32 → (Nat → Int32) → (Nat → Int32) → (Nat → Int32) → (Nat → Int64) → (Nat → Int32) → (Nat → Int32) → (Nat → Int32) → (Nat → Int32) → (Nat → Int32) → (Nat → Int32) → Prop} {x1 x2 x5 : Int32} {x3 : Int64} (K : post 0 (g_begun, g_opened, g_now, g_endings, g_lost, g_got, g_taken, g_fault, g_at, g_there, g_source, g_varint, g_found, b_kinds, b_extras, b_state, b_due, b_placeOf, b_used, b_bodies, b_sizes, b_ended, b_frame)) : wY_check_117 post J x1 x2 x3 x5 (-1) g_begun g_opened g_now g_endings g_lost g_got g_taken g_fault g_at g_there g_source g_varint g_found b_kinds b_extras b_state b_due b_placeOf b_used b_bodies b_sizes b_ended b_frame :=
  br_f (by decide) (br_f (by decide) (br_f (by decide) K))
theorem fy_17f {post : Int32 → SY → Prop} {J : Int32 → Int32 → Int64 → Int32 → Int32 → Int32 → Int64 → Int32 → Int32 → Int32 → Int32 → Int32 → Int32 → Int32 → Int32 → Int64 → Int32 → (Nat → Int32) → (Nat → Int32) → (Nat → Int32) → (Nat → Int64) → (Nat → Int32) → (Nat → Int32) → (Nat → Int32) → (Nat → Int32) → (Nat → Int32) → (Nat → Int32) → Prop} {x1 x2 x5 : Int32} {x3 : Int64} {f : Nat} (h1 : 1 ≤ f) (h2 : f ≤ 5) (K : post (nI f) (g_begun, g_opened, g_now, g_endings, g_lost, g_got, g_taken, g_fault, g_at, g_there, g_source, g_varint, g_found, b_kinds, b_extras, b_state, b_due, b_placeOf, b_used, b_bodies, b_sizes, b_ended, b_frame)) : wY_check_117 post J x1 x2 x3 x5 (nI f) g_begun g_opened g_now g_endings g_lost g_got g_taken g_fault g_at g_there g_source g_varint g_found b_kinds b_extras b_state b_due b_placeOf b_used b_bodies b_sizes b_ended b_frame := by
  refine br_f ?_ (br_f (nI_ne0 h1 (by omega)) (br_t (nI_pos' (by omega)) K))
  intro z
  have h := nI_toInt (n := f) (by omega)
  rw [z, show (-2 : Int32).toInt = -2 from by decide] at h
  omega
/-- from where a reading has come to, the check goes on as from its start -/
theorem fy_cr {sch : Nat → Nat} {B : Nat → Int32} {sz s L : Nat} {stk : fb_Stk} {pk : Option (Nat × Nat × Nat)} {C : fb_Con} (hy : fy_Sy sch b_kinds b_extras) (hs : fb_Sc sch) (t : fb_Tr sch B sz s stk pk C) (hL : s < L) (hLz : L ≤ sz) (hz : sz ≤ 60) (hB : fy_By (-1) b_bodies b_frame B L) (v0 : Int64) (f0 : Int32) :
    ∃ at' lvl T E st vr fd, fy_Cn s stk pk at' lvl T E ∧ st + lvl ≤ s + 1 ∧ ∀ (post : Int32 → SY → Prop) (n : Nat),
      wY_check_35 post n (nI lvl) (nI T) (lN E) (nI st) g_begun g_opened g_now g_endings g_lost g_got g_taken g_fault (nI at') (nI L) (-1) vr fd b_kinds b_extras b_state b_due b_placeOf b_used b_bodies b_sizes b_ended b_frame →
      wY_check_35 post (n + st) 1 0 (lN sz) 0 g_begun g_opened g_now g_endings g_lost g_got g_taken g_fault 0 (nI L) (-1) v0 f0 b_kinds b_extras b_state b_due b_placeOf b_used b_bodies b_sizes b_ended b_frame := by
  refine fb_ind t (fun s stk pk C => s < L → ∃ at' lvl T E st vr fd, fy_Cn s stk pk at' lvl T E ∧ st + lvl ≤ s + 1 ∧ ∀ (post : Int32 → SY → Prop) (n : Nat),
      wY_check_35 post n (nI lvl) (nI T) (lN E) (nI st) g_begun g_opened g_now g_endings g_lost g_got g_taken g_fault (nI at') (nI L) (-1) vr fd b_kinds b_extras b_state b_due b_placeOf b_used b_bodies b_sizes b_ended b_frame →
      wY_check_35 post (n + st) 1 0 (lN sz) 0 g_begun g_opened g_now g_endings g_lost g_got g_taken g_fault 0 (nI L) (-1) v0 f0 b_kinds b_extras b_state b_due b_placeOf b_used b_bodies b_sizes b_ended b_frame) ?_ ?_ ?_ ?_ ?_ ?_ ?_ ?_ hL
  · intro _
    refine ⟨0, 1, 0, sz, 0, v0, f0, Or.inl ⟨rfl, rfl, rfl, rfl, ?_⟩, by decide, fun post n K => K⟩
    show sz = 0 * 256 + sz
    omega
  · intro s ty pa r C t0 ih hL
    obtain ⟨at', lvl, T, E, st, vr, fd, hc, hst, K⟩ := ih hL
    clear ih
    obtain ⟨w1, w2, w3⟩ := fy_enc2 (fb_W hs t0).1 hz
    rcases hc with ⟨_, rfl, rfl, rfl, rfl⟩ | ⟨_, _, _, h, _⟩ | ⟨_, _, _, h, _⟩
    · simp only [List.length_cons] at hst
      have ee : fy_eE ((at', ty, pa) :: r) = fy_eE r * 256 + at' := rfl
      have et : fy_eT ((at', ty, pa) :: r) = fy_eT r * 16 + ty := rfl
      have hty := (fb_WStop (fb_W hs t0).1).2.2.1
      refine ⟨at', r.length, fy_eT r, fy_eE r, st + 1, vr, fd, Or.inl ⟨rfl, rfl, rfl, rfl, rfl⟩, by omega, fun post n H => ?_⟩
      rw [show n + (st + 1) = (n + 1) + st from by omega]
      refine K post (n + 1) ?_
      refine fy_ckO (lvl := r.length) (by omega) hL (by omega) (by omega) (by omega) (by omega) ?_
      rw [show fy_eT ((at', ty, pa) :: r) / 16 = fy_eT r from by omega, show fy_eE ((at', ty, pa) :: r) / 256 = fy_eE r from by omega]
      exact H
    · cases h
    · cases h
  · intro s stk en f C t0 ih hL
    obtain ⟨at', lvl, T, E, st, vr, fd, hc, hst, K⟩ := ih hL
    clear ih
    obtain ⟨w1, w2, w3⟩ := fy_enc2 (fb_W hs t0).1 hz
    rcases hc with ⟨h, _⟩ | ⟨pe, en', f', h, hk, rfl, rfl, rfl, rfl⟩ | ⟨pe, en', f', h, hk, rfl, rfl, rfl, rfl⟩
    · cases h
    · cases h
      exact ⟨s, _, _, _, st, vr, fd, Or.inl ⟨rfl, rfl, rfl, rfl, rfl⟩, hst, K⟩
    · cases h
      refine ⟨at', _, _, _, st + 1, vr, fd, Or.inl ⟨rfl, rfl, rfl, rfl, rfl⟩, by omega, fun post n H => ?_⟩
      rw [show n + (st + 1) = (n + 1) + st from by omega]
      refine K post (n + 1) ?_
      refine fy_ckO (lvl := stk.length) (by omega) hL (by omega) (by omega) (by omega) (by omega) ?_
      rw [show (fy_eT stk * 16 + 15) / 16 = fy_eT stk from by omega, show (fy_eE stk * 256 + at') / 256 = fy_eE stk from by omega]
      exact H
  · intro s e ty pa r C s1 a s' t0 ih k1 k2 k3 hL
    have l1 := fb_KeyL k1
    have l2 := fb_SkL k3 k1.2.2.2.2
    obtain ⟨_, hv, hf, hw, hle⟩ := k1
    obtain ⟨at', lvl, T, E, st, vr, fd, hc, hst, K⟩ := ih (by omega)
    clear ih
    obtain ⟨w1, w2, w3⟩ := fy_enc2 (fb_W hs t0).1 hz
    obtain ⟨u1, u2, u3, u4, u5⟩ := fb_WStop (fb_W hs t0).1
    rcases hc with ⟨_, rfl, rfl, rfl, rfl⟩ | ⟨_, _, _, h, _⟩ | ⟨_, _, _, h, _⟩
    · have hlen : ((e, ty, pa) :: r).length = r.length + 1 := rfl
      have ee : fy_eE ((e, ty, pa) :: r) = fy_eE r * 256 + e := rfl
      have et : fy_eT ((e, ty, pa) :: r) = fy_eT r * 16 + ty := rfl
      have fin : ∀ v', (∀ q : Int32 → SY → Prop, q 0 (g_begun, g_opened, g_now, g_endings, g_lost, g_got, g_taken, g_fault, nI s', nI L, -1, v', fd, b_kinds, b_extras, b_state, b_due, b_placeOf, b_used, b_bodies, b_sizes, b_ended, b_frame) → wpY_checkEntry q (g_begun, g_opened, g_now, g_endings, g_lost, g_got, g_taken, g_fault, nI at', nI L, -1, vr, fd, b_kinds, b_extras, b_state, b_due, b_placeOf, b_used, b_bodies, b_sizes, b_ended, b_frame) (nI ty) (nI e) (nI (((e, ty, pa) :: r).length))) → ∃ at'' lvl T E st' vr fd, fy_Cn s' ((e, ty, pa) :: r) none at'' lvl T E ∧ st' + lvl ≤ s' + 1 ∧ ∀ (post : Int32 → SY → Prop) (n : Nat),
          wY_check_35 post n (nI lvl) (nI T) (lN E) (nI st') g_begun g_opened g_now g_endings g_lost g_got g_taken g_fault (nI at'') (nI L) (-1) vr fd b_kinds b_extras b_state b_due b_placeOf b_used b_bodies b_sizes b_ended b_frame →
          wY_check_35 post (n + st') 1 0 (lN sz) 0 g_begun g_opened g_now g_endings g_lost g_got g_taken g_fault 0 (nI L) (-1) v0 f0 b_kinds b_extras b_state b_due b_placeOf b_used b_bodies b_sizes b_ended b_frame := by
        intro v' R
        refine ⟨s', _, _, _, st + 1, v', fd, Or.inl ⟨rfl, rfl, rfl, rfl, rfl⟩, by omega, fun post n H => ?_⟩
        rw [show n + (st + 1) = (n + 1) + st from by omega]
        refine K post (n + 1) ?_
        exact fy_ckE (e := e) (ty := ty) (by omega) (by omega) (by omega) (by omega) (by omega) (by omega) (by omega) (by omega) u3 R (fy_17z H)
      rcases k3 with ⟨kw, b, kv⟩ | ⟨kw, kv⟩ | ⟨kw, s2, m, kv, ke, kk⟩
      · have lv := fb_VrL kv
        refine fin b (fun q Q => fy_ceK hB hv (by omega) (by omega) hf hw ?_)
        rw [kw]
        rw [kw] at hle
        exact fy_c640 hle (by omega) (fun q Q => fy_rv0 hB kv (by omega) (by omega) Q) Q
      · refine fin a (fun q Q => fy_ceK hB hv (by omega) (by omega) hf hw ?_)
        refine fy_c64f kw hle (by omega) ?_
        rw [← kv]; exact Q
      · have lv := fb_VrL kv
        refine fin (lN m) (fun q Q => fy_ceK hB hv (by omega) (by omega) hf hw ?_)
        rw [kw] at hle ⊢
        have hle' : s1 + 1 ≤ e := hle
        refine fy_c64c hy hs u3 hf kw hle' ke (by omega) (by omega) (fun q Q => fy_rv0 hB kv (by omega) (by omega) Q) (fun _ => ?_) (fun z => absurd k2 z) (fun z => absurd k2 z) (fun z => absurd k2 z) (fun z => absurd k2 z)
        rw [← kk]; exact Q
    · cases h
    · cases h
  · intro s e ty pa r C s1 a s' b t0 ih k1 k2 k3 hL
    have l1 := fb_KeyL k1
    have l2 := fb_SvL k3 k1.2.2.2.2
    obtain ⟨_, hv, hf, hw, hle⟩ := k1
    obtain ⟨at', lvl, T, E, st, vr, fd, hc, hst, K⟩ := ih (by omega)
    clear ih
    obtain ⟨w1, w2, w3⟩ := fy_enc2 (fb_W hs t0).1 hz
    obtain ⟨u1, u2, u3, u4, u5⟩ := fb_WStop (fb_W hs t0).1
    rcases hc with ⟨_, rfl, rfl, rfl, rfl⟩ | ⟨_, _, _, h, _⟩ | ⟨_, _, _, h, _⟩
    · have hlen : ((e, ty, pa) :: r).length = r.length + 1 := rfl
      have ee : fy_eE ((e, ty, pa) :: r) = fy_eE r * 256 + e := rfl
      have et : fy_eT ((e, ty, pa) :: r) = fy_eT r * 16 + ty := rfl
      have fin : ∀ v', (∀ q : Int32 → SY → Prop, q 0 (g_begun, g_opened, g_now, g_endings, g_lost, g_got, g_taken, g_fault, nI s', nI L, -1, v', fd, b_kinds, b_extras, b_state, b_due, b_placeOf, b_used, b_bodies, b_sizes, b_ended, b_frame) → wpY_checkEntry q (g_begun, g_opened, g_now, g_endings, g_lost, g_got, g_taken, g_fault, nI at', nI L, -1, vr, fd, b_kinds, b_extras, b_state, b_due, b_placeOf, b_used, b_bodies, b_sizes, b_ended, b_frame) (nI ty) (nI e) (nI (((e, ty, pa) :: r).length))) → ∃ at'' lvl T E st' vr fd, fy_Cn s' ((e, ty, pa) :: r) none at'' lvl T E ∧ st' + lvl ≤ s' + 1 ∧ ∀ (post : Int32 → SY → Prop) (n : Nat),
          wY_check_35 post n (nI lvl) (nI T) (lN E) (nI st') g_begun g_opened g_now g_endings g_lost g_got g_taken g_fault (nI at'') (nI L) (-1) vr fd b_kinds b_extras b_state b_due b_placeOf b_used b_bodies b_sizes b_ended b_frame →
          wY_check_35 post (n + st') 1 0 (lN sz) 0 g_begun g_opened g_now g_endings g_lost g_got g_taken g_fault 0 (nI L) (-1) v0 f0 b_kinds b_extras b_state b_due b_placeOf b_used b_bodies b_sizes b_ended b_frame := by
        intro v' R
        refine ⟨s', _, _, _, st + 1, v', fd, Or.inl ⟨rfl, rfl, rfl, rfl, rfl⟩, by omega, fun post n H => ?_⟩
        rw [show n + (st + 1) = (n + 1) + st from by omega]
        refine K post (n + 1) ?_
        exact fy_ckE (e := e) (ty := ty) (by omega) (by omega) (by omega) (by omega) (by omega) (by omega) (by omega) (by omega) u3 R (fy_17z H)
      rcases k3 with ⟨kw, kv⟩ | ⟨kw, kv, _⟩
      · have lv := fb_VrL kv
        refine fin b (fun q Q => fy_ceK hB hv (by omega) (by omega) hf hw ?_)
        rw [kw]
        rw [kw] at hle
        exact fy_c640 hle (by omega) (fun q Q => fy_rv0 hB kv (by omega) (by omega) Q) Q
      · refine fin a (fun q Q => fy_ceK hB hv (by omega) (by omega) hf hw ?_)
        refine fy_c64f kw hle (by omega) ?_
        rw [← kv]; exact Q
    · cases h
    · cases h
  · intro s e ty pa r C s1 a s2 m t0 ih k1 k2 k3 k4 k5 k6 k7 hL
    have l1 := fb_KeyL k1
    have l2 := fb_VrL k5
    obtain ⟨_, hv, hf, hw, hle⟩ := k1
    obtain ⟨at', lvl, T, E, st, vr, fd, hc, hst, K⟩ := ih (by omega)
    clear ih
    obtain ⟨w1, w2, w3⟩ := fy_enc2 (fb_W hs t0).1 hz
    obtain ⟨u1, u2, u3, u4, u5⟩ := fb_WStop (fb_W hs t0).1
    rcases hc with ⟨_, rfl, rfl, rfl, rfl⟩ | ⟨_, _, _, h, _⟩ | ⟨_, _, _, h, _⟩
    · have hlen : ((e, ty, pa) :: r).length = r.length + 1 := rfl
      have ee : fy_eE ((e, ty, pa) :: r) = fy_eE r * 256 + e := rfl
      have et : fy_eT ((e, ty, pa) :: r) = fy_eT r * 16 + ty := rfl
      refine ⟨s2, ((e, ty, pa) :: r).length + 1, fy_eT ((e, ty, pa) :: r) * 16 + (fb_ky sch ty a - 1) % 4, fy_eE ((e, ty, pa) :: r) * 256 + (s2 + m), st + 1, lN m, nI ((fb_ky sch ty a - 1) % 4), Or.inl ⟨rfl, rfl, rfl, rfl, rfl⟩, by omega, fun post n H => ?_⟩
      rw [show n + (st + 1) = (n + 1) + st from by omega]
      refine K post (n + 1) ?_
      refine fy_ckE (r := -2) (at' := nI s2) (v' := lN m) (f' := nI ((fb_ky sch ty a - 1) % 4)) (e := e) (ty := ty) (by omega) (by omega) (by omega) (by omega) (by omega) (by omega) (by omega) (by omega) u3 ?_ (fy_17p (by omega) (by omega) (by omega) (by omega) H)
      intro q Q
      refine fy_ceK hB hv (by omega) (by omega) hf hw ?_
      rw [k2] at hle ⊢
      have hle' : s1 + 1 ≤ e := hle
      exact fy_c64c hy hs u3 hf k2 hle' k6 (by omega) (by omega) (fun q Q => fy_rv0 hB k5 (by omega) (by omega) Q) (fun z => absurd z k3) (fun _ _ => ⟨fun z => absurd z (by omega), fun _ => Q⟩) (fun _ z => absurd z (by omega)) (fun _ z => absurd z (by omega)) (fun _ z => absurd k4 z)
    · cases h
    · cases h
  · intro s e ty pa r C s1 a s2 m t0 ih k1 k2 k3 k4 k5 k6 k7 k8 hL
    have l1 := fb_KeyL k1
    have l2 := fb_VrL k5
    obtain ⟨_, hv, hf, hw, hle⟩ := k1
    obtain ⟨at', lvl, T, E, st, vr, fd, hc, hst, K⟩ := ih (by omega)
    clear ih
    obtain ⟨w1, w2, w3⟩ := fy_enc2 (fb_W hs t0).1 hz
    obtain ⟨u1, u2, u3, u4, u5⟩ := fb_WStop (fb_W hs t0).1
    rcases hc with ⟨_, rfl, rfl, rfl, rfl⟩ | ⟨_, _, _, h, _⟩ | ⟨_, _, _, h, _⟩
    · have hlen : ((e, ty, pa) :: r).length = r.length + 1 := rfl
      have ee : fy_eE ((e, ty, pa) :: r) = fy_eE r * 256 + e := rfl
      have et : fy_eT ((e, ty, pa) :: r) = fy_eT r * 16 + ty := rfl
      by_cases hk : (fb_ky sch ty a - 1) / 4 = 3 ∨ (fb_ky sch ty a - 1) / 4 = 5
      · refine ⟨s2 + m, ((e, ty, pa) :: r).length, fy_eT ((e, ty, pa) :: r), fy_eE ((e, ty, pa) :: r), st + 1, lN m, fd, Or.inr (Or.inl ⟨_, _, _, rfl, hk, rfl, rfl, rfl, rfl⟩), by omega, fun post n H => ?_⟩
        rw [show n + (st + 1) = (n + 1) + st from by omega]
        refine K post (n + 1) ?_
        refine fy_ckE (r := 0) (at' := nI (s2 + m)) (v' := lN m) (f' := fd) (e := e) (ty := ty) (by omega) (by omega) (by omega) (by omega) (by omega) (by omega) (by omega) (by omega) u3 ?_ (fy_17z H)
        intro q Q
        refine fy_ceK hB hv (by omega) (by omega) hf hw ?_
        rw [k2] at hle ⊢
        have hle' : s1 + 1 ≤ e := hle
        exact fy_c64c hy hs u3 hf k2 hle' k6 (by omega) (by omega) (fun q Q => fy_rv0 hB k5 (by omega) (by omega) Q) (fun z => absurd z k3) (fun _ z => absurd z k4) (fun _ z => (z.elim (fun y => y.2 (k7 y.1)) (fun y => y.2 (k8 y.1))).elim) (fun _ _ => Q) (fun _ _ z1 z2 => absurd hk (by omega))
      · refine ⟨s2, ((e, ty, pa) :: r).length + 1, fy_eT ((e, ty, pa) :: r) * 16 + 15, fy_eE ((e, ty, pa) :: r) * 256 + (s2 + m), st + 1, lN m, nI 15, Or.inr (Or.inr ⟨_, _, _, rfl, hk, rfl, rfl, rfl, rfl⟩), by omega, fun post n H => ?_⟩
        rw [show n + (st + 1) = (n + 1) + st from by omega]
        refine K post (n + 1) ?_
        refine fy_ckE (r := -2) (at' := nI s2) (v' := lN m) (f' := nI 15) (e := e) (ty := ty) (by omega) (by omega) (by omega) (by omega) (by omega) (by omega) (by omega) (by omega) u3 ?_ (fy_17p (by omega) (by omega) (by omega) (by omega) H)
        intro q Q
        refine fy_ceK hB hv (by omega) (by omega) hf hw ?_
        rw [k2] at hle ⊢
        have hle' : s1 + 1 ≤ e := hle
        exact fy_c64c hy hs u3 hf k2 hle' k6 (by omega) (by omega) (fun q Q => fy_rv0 hB k5 (by omega) (by omega) Q) (fun z => absurd z k3) (fun _ z => absurd z k4) (fun _ z => absurd hk (by omega)) (fun _ z => absurd hk (by omega)) (fun _ _ _ _ => Q)
    · cases h
    · cases h
  · intro s e ty pa r C pe en f s' b t0 ih k1 k2 hL
    have l2 := fb_ElL k2
    obtain ⟨at', lvl, T, E, st, vr, fd, hc, hst, K⟩ := ih (by omega)
    clear ih
    obtain ⟨w1, w2, w3⟩ := fy_enc2 (fb_W hs t0).1 hz
    obtain ⟨u1, u2, u3, u4, u5⟩ := fb_WStop (fb_W hs t0).1
    have hp := (fb_W hs t0).2 pe en f rfl
    have hpe : pe ≤ e := by
      obtain ⟨e', ty', pa', r', hh, h1, h2, _⟩ := hp
      cases hh
      exact h2
    have hlen : ((e, ty, pa) :: r).length = r.length + 1 := rfl
    rcases hc with ⟨h, _⟩ | ⟨pe', en', f', h, hk, rfl, rfl, rfl, rfl⟩ | ⟨pe', en', f', h, hk, rfl, rfl, rfl, rfl⟩
    · cases h
    · cases h
      exact ⟨pe, _, _, _, st, vr, fd, Or.inr (Or.inl ⟨_, _, _, rfl, hk, rfl, rfl, rfl, rfl⟩), by omega, K⟩
    · cases h
      rcases k2 with ⟨a1, a2, a3⟩ | ⟨a1, a2, a3⟩ | ⟨a1, a2, a3⟩
      · exact absurd (Or.inl a1) hk
      · exact absurd (Or.inr a1) hk
      · have lv := fb_VrL a3
        refine ⟨s', _, _, _, st + 1, b, fd, Or.inr (Or.inr ⟨_, _, _, rfl, hk, rfl, rfl, rfl, rfl⟩), by omega, fun post n H => ?_⟩
        rw [show n + (st + 1) = (n + 1) + st from by omega]
        refine K post (n + 1) ?_
        exact fy_ckP (e := pe) (by omega) (by omega) (by omega) (by omega) (by omega) (by omega) (by omega) (by omega) (fun q Q => fy_rv0 hB a3 (by omega) (by omega) Q) (fy_17z H)
end
end
section
/-! the check's answers when L bytes of a body are there -/
def fy_Ck (sch : Nat → Nat) (B : Nat → Int32) (sz L : Nat) (r : Int32) : Prop :=
  ∀ (g_begun g_opened : Int32) (g_now : Int64) (g_endings g_lost g_taken g_fault g_at g_there g_source : Int32) (g_varint : Int64) (g_found : Int32) (b_kinds b_extras b_state : Nat → Int32) (b_due : Nat → Int64) (b_placeOf b_used b_bodies b_sizes b_ended b_frame : Nat → Int32),
    fy_Sy sch b_kinds b_extras → fy_By (-1) b_bodies b_frame B L → b_frame 1 = nI sz →
    ∃ at' vr fd, ∀ post : Int32 → SY → Prop, post r (g_begun, g_opened, g_now, g_endings, g_lost, nI (L + 2), g_taken, g_fault, at', nI L, -1, vr, fd, b_kinds, b_extras, b_state, b_due, b_placeOf, b_used, b_bodies, b_sizes, b_ended, b_frame) → wpY_check post (g_begun, g_opened, g_now, g_endings, g_lost, nI (L + 2), g_taken, g_fault, g_at, g_there, g_source, g_varint, g_found, b_kinds, b_extras, b_state, b_due, b_placeOf, b_used, b_bodies, b_sizes, b_ended, b_frame)
section
variable {sch : Nat → Nat} {B : Nat → Int32} {sz s L : Nat} {C : fb_Con}
/-- a check from its start, by what the loop gives from where a reading has come to -/
theorem fy_run {stk : fb_Stk} {pk : Option (Nat × Nat × Nat)} {r : Int32} (hs : fb_Sc sch) (t : fb_Tr sch B sz s stk pk C) (hL : s < L) (hLz : L ≤ sz) (hz : sz ≤ 60)
    (H : ∀ (g_begun g_opened : Int32) (g_now : Int64) (g_endings g_lost g_taken g_fault : Int32) (g_varint : Int64) (g_found : Int32) (b_kinds b_extras b_state : Nat → Int32) (b_due : Nat → Int64) (b_placeOf b_used b_bodies b_sizes b_ended b_frame : Nat → Int32) (at' lvl T E st : Nat),
      fy_Sy sch b_kinds b_extras → fy_By (-1) b_bodies b_frame B L → fy_Cn s stk pk at' lvl T E → st + lvl ≤ s + 1 →
      ∃ a2 vr fd, ∀ post : Int32 → SY → Prop, post r (g_begun, g_opened, g_now, g_endings, g_lost, nI (L + 2), g_taken, g_fault, a2, nI L, -1, vr, fd, b_kinds, b_extras, b_state, b_due, b_placeOf, b_used, b_bodies, b_sizes, b_ended, b_frame) → wY_check_35 post 2 (nI lvl) (nI T) (lN E) (nI st) g_begun g_opened g_now g_endings g_lost (nI (L + 2)) g_taken g_fault (nI at') (nI L) (-1) g_varint g_found b_kinds b_extras b_state b_due b_placeOf b_used b_bodies b_sizes b_ended b_frame) : fy_Ck sch B sz L r := by
  intro g_begun g_opened g_now g_endings g_lost g_taken g_fault g_at g_there g_source g_varint g_found b_kinds b_extras b_state b_due b_placeOf b_used b_bodies b_sizes b_ended b_frame hy hB hf
  obtain ⟨at', lvl, T, E, st, vr, fd, hc, hst, K⟩ := fy_cr (g_begun := g_begun) (g_opened := g_opened) (g_now := g_now) (g_endings := g_endings) (g_lost := g_lost) (g_got := nI (L + 2)) (g_taken := g_taken) (g_fault := g_fault) (b_state := b_state) (b_due := b_due) (b_placeOf := b_placeOf) (b_used := b_used) (b_sizes := b_sizes) (b_ended := b_ended) hy hs t hL hLz hz hB g_varint g_found
  obtain ⟨a2, vr2, fd2, H2⟩ := H g_begun g_opened g_now g_endings g_lost g_taken g_fault vr fd b_kinds b_extras b_state b_due b_placeOf b_used b_bodies b_sizes b_ended b_frame at' lvl T E st hy hB hc hst
  refine ⟨a2, vr2, fd2, fun post P => ?_⟩
  have e1 : nI (L + 2) - 2 = nI L := by
    have := pk_sub (a := L + 2) (b := 2) (by omega)
    rw [Nat.add_sub_cancel] at this
    exact this
  have e2 : (b_frame 1).toInt64 = lN sz := by rw [hf, nI_l (by omega)]
  exact nm_r e1 (nm_r e2 ⟨2 + st, K post 2 (H2 post P)⟩)
variable {e ty pa : Nat} {r : fb_Stk}
/-- an entry that ends the check -/
theorem fy_oe {rr rf : Int32} (hs : fb_Sc sch) (t : fb_Tr sch B sz s ((e, ty, pa) :: r) none C) (hL : s < L) (hLz : L ≤ sz) (hz : sz ≤ 60) (hse : s < e) (hr : (rr = -1 ∧ rf = 0) ∨ (∃ f, 1 ≤ f ∧ f ≤ 5 ∧ rr = nI f ∧ rf = nI f))
    (R : ∀ (g_begun g_opened : Int32) (g_now : Int64) (g_endings g_lost g_got g_taken g_fault : Int32) (g_varint : Int64) (g_found : Int32) (b_kinds b_extras b_state : Nat → Int32) (b_due : Nat → Int64) (b_placeOf b_used b_bodies b_sizes b_ended b_frame : Nat → Int32),
      fy_Sy sch b_kinds b_extras → fy_By (-1) b_bodies b_frame B L → ∃ a2 vr fd, ∀ q : Int32 → SY → Prop, q rr (g_begun, g_opened, g_now, g_endings, g_lost, g_got, g_taken, g_fault, a2, nI L, -1, vr, fd, b_kinds, b_extras, b_state, b_due, b_placeOf, b_used, b_bodies, b_sizes, b_ended, b_frame) → wpY_checkEntry q (g_begun, g_opened, g_now, g_endings, g_lost, g_got, g_taken, g_fault, nI s, nI L, -1, g_varint, g_found, b_kinds, b_extras, b_state, b_due, b_placeOf, b_used, b_bodies, b_sizes, b_ended, b_frame) (nI ty) (nI e) (nI (r.length + 1))) : fy_Ck sch B sz L rf := by
  refine fy_run hs t hL hLz hz ?_
  intro g_begun g_opened g_now g_endings g_lost g_taken g_fault g_varint g_found b_kinds b_extras b_state b_due b_placeOf b_used b_bodies b_sizes b_ended b_frame at' lvl T E st hy hB hc hst
  obtain ⟨w1, w2, w3⟩ := fy_enc2 (fb_W hs t).1 hz
  obtain ⟨u1, u2, u3, u4, u5⟩ := fb_WStop (fb_W hs t).1
  have ee : fy_eE ((e, ty, pa) :: r) = fy_eE r * 256 + e := rfl
  have et : fy_eT ((e, ty, pa) :: r) = fy_eT r * 16 + ty := rfl
  rcases hc with ⟨_, rfl, rfl, rfl, rfl⟩ | ⟨_, _, _, h, _⟩ | ⟨_, _, _, h, _⟩
  · obtain ⟨a2, vr, fd, R2⟩ := R g_begun g_opened g_now g_endings g_lost (nI (L + 2)) g_taken g_fault g_varint g_found b_kinds b_extras b_state b_due b_placeOf b_used b_bodies b_sizes b_ended b_frame hy hB
    refine ⟨a2, vr, fd, fun post P => ?_⟩
    have hlen : ((e, ty, pa) :: r).length = r.length + 1 := rfl
    refine fy_ckE (e := e) (ty := ty) (by omega) (by omega) (by omega) (by omega) (by omega) (by omega) (by omega) (by omega) u3 R2 ?_
    rcases hr with ⟨rfl, rfl⟩ | ⟨f, h1, h2, rfl, rfl⟩
    · exact fy_17w P
    · exact fy_17f h1 h2 P
  · cases h
  · cases h
/-- an entry that goes beyond what is there -/
theorem fy_oz {x : Nat} (hs : fb_Sc sch) (t : fb_Tr sch B sz s ((e, ty, pa) :: r) none C) (hL : s < L) (hLz : L ≤ sz) (hz : sz ≤ 60) (hse : s < e) (hx : L ≤ x) (hx1 : x < 1000)
    (R : ∀ (g_begun g_opened : Int32) (g_now : Int64) (g_endings g_lost g_got g_taken g_fault : Int32) (g_varint : Int64) (g_found : Int32) (b_kinds b_extras b_state : Nat → Int32) (b_due : Nat → Int64) (b_placeOf b_used b_bodies b_sizes b_ended b_frame : Nat → Int32),
      fy_Sy sch b_kinds b_extras → fy_By (-1) b_bodies b_frame B L → ∃ vr fd, ∀ q : Int32 → SY → Prop, q 0 (g_begun, g_opened, g_now, g_endings, g_lost, g_got, g_taken, g_fault, nI x, nI L, -1, vr, fd, b_kinds, b_extras, b_state, b_due, b_placeOf, b_used, b_bodies, b_sizes, b_ended, b_frame) → wpY_checkEntry q (g_begun, g_opened, g_now, g_endings, g_lost, g_got, g_taken, g_fault, nI s, nI L, -1, g_varint, g_found, b_kinds, b_extras, b_state, b_due, b_placeOf, b_used, b_bodies, b_sizes, b_ended, b_frame) (nI ty) (nI e) (nI (r.length + 1))) : fy_Ck sch B sz L 0 := by
  refine fy_run hs t hL hLz hz ?_
  intro g_begun g_opened g_now g_endings g_lost g_taken g_fault g_varint g_found b_kinds b_extras b_state b_due b_placeOf b_used b_bodies b_sizes b_ended b_frame at' lvl T E st hy hB hc hst
  obtain ⟨w1, w2, w3⟩ := fy_enc2 (fb_W hs t).1 hz
  obtain ⟨u1, u2, u3, u4, u5⟩ := fb_WStop (fb_W hs t).1
  have ee : fy_eE ((e, ty, pa) :: r) = fy_eE r * 256 + e := rfl
  have et : fy_eT ((e, ty, pa) :: r) = fy_eT r * 16 + ty := rfl
  rcases hc with ⟨_, rfl, rfl, rfl, rfl⟩ | ⟨_, _, _, h, _⟩ | ⟨_, _, _, h, _⟩
  · obtain ⟨vr, fd, R2⟩ := R g_begun g_opened g_now g_endings g_lost (nI (L + 2)) g_taken g_fault g_varint g_found b_kinds b_extras b_state b_due b_placeOf b_used b_bodies b_sizes b_ended b_frame hy hB
    refine ⟨nI x, vr, fd, fun post P => ?_⟩
    have hlen : ((e, ty, pa) :: r).length = r.length + 1 := rfl
    exact fy_ckE (e := e) (ty := ty) (by omega) (by omega) (by omega) (by omega) (by omega) (by omega) (by omega) (by omega) u3 R2 (fy_17z (fy_ckX (by omega) hx (by omega) P))
  · cases h
  · cases h
/-- an entry that is entered where the bytes end -/
theorem fy_op {x m k : Nat} (hs : fb_Sc sch) (t : fb_Tr sch B sz s ((e, ty, pa) :: r) none C) (hL : s < L) (hLz : L ≤ sz) (hz : sz ≤ 60) (hse : s < e) (hx : L ≤ x) (hx1 : x + m < 256) (hk : k < 16)
    (R : ∀ (g_begun g_opened : Int32) (g_now : Int64) (g_endings g_lost g_got g_taken g_fault : Int32) (g_varint : Int64) (g_found : Int32) (b_kinds b_extras b_state : Nat → Int32) (b_due : Nat → Int64) (b_placeOf b_used b_bodies b_sizes b_ended b_frame : Nat → Int32),
      fy_Sy sch b_kinds b_extras → fy_By (-1) b_bodies b_frame B L → ∀ q : Int32 → SY → Prop, q (-2) (g_begun, g_opened, g_now, g_endings, g_lost, g_got, g_taken, g_fault, nI x, nI L, -1, lN m, nI k, b_kinds, b_extras, b_state, b_due, b_placeOf, b_used, b_bodies, b_sizes, b_ended, b_frame) → wpY_checkEntry q (g_begun, g_opened, g_now, g_endings, g_lost, g_got, g_taken, g_fault, nI s, nI L, -1, g_varint, g_found, b_kinds, b_extras, b_state, b_due, b_placeOf, b_used, b_bodies, b_sizes, b_ended, b_frame) (nI ty) (nI e) (nI (r.length + 1))) : fy_Ck sch B sz L 0 := by
  refine fy_run hs t hL hLz hz ?_
  intro g_begun g_opened g_now g_endings g_lost g_taken g_fault g_varint g_found b_kinds b_extras b_state b_due b_placeOf b_used b_bodies b_sizes b_ended b_frame at' lvl T E st hy hB hc hst
  obtain ⟨w1, w2, w3⟩ := fy_enc2 (fb_W hs t).1 hz
  obtain ⟨u1, u2, u3, u4, u5⟩ := fb_WStop (fb_W hs t).1
  have ee : fy_eE ((e, ty, pa) :: r) = fy_eE r * 256 + e := rfl
  have et : fy_eT ((e, ty, pa) :: r) = fy_eT r * 16 + ty := rfl
  rcases hc with ⟨_, rfl, rfl, rfl, rfl⟩ | ⟨_, _, _, h, _⟩ | ⟨_, _, _, h, _⟩
  · have R2 := R g_begun g_opened g_now g_endings g_lost (nI (L + 2)) g_taken g_fault g_varint g_found b_kinds b_extras b_state b_due b_placeOf b_used b_bodies b_sizes b_ended b_frame hy hB
    refine ⟨nI x, lN m, nI k, fun post P => ?_⟩
    have hlen : ((e, ty, pa) :: r).length = r.length + 1 := rfl
    exact fy_ckE (e := e) (ty := ty) (by omega) (by omega) (by omega) (by omega) (by omega) (by omega) (by omega) (by omega) u3 R2 (fy_17p (by omega) (by omega) (by omega) (by omega) (fy_ckX (by omega) hx (by omega) P))
  · cases h
  · cases h
/-- the four ways in which a varint ends at the last byte that is there: still open, short, long, whole -/
def fy_V (B : Nat → Int32) (s e L : Nat) (r : Int32) : Prop :=
  (r = -1 ∧ ∃ n a, fb_Pv B s n a ∧ s + n = L ∧ (0 < n → s + n < e)) ∨
  (r = nI 4 ∧ ∃ n, n < 9 ∧ (∀ j, j ≤ n → 128 ≤ B (s + j)) ∧ s + n + 1 = e ∧ e = L) ∨
  (r = nI 3 ∧ (∀ j, j < 10 → 128 ≤ B (s + j)) ∧ s + 9 < e ∧ s + 10 = L)
theorem fy_Vn {e L : Nat} {r : Int32} (h : fy_V B s e L r) : ¬ r = 0 := by
  rcases h with ⟨rfl, _⟩ | ⟨rfl, _⟩ | ⟨rfl, _⟩ <;> decide
theorem fy_Vr2 {e L : Nat} {r : Int32} (h : fy_V B s e L r) : (r = -1 ∧ (if r = -1 then 0 else r) = 0) ∨ (∃ f, 1 ≤ f ∧ f ≤ 5 ∧ r = nI f ∧ (if r = -1 then 0 else r) = nI f) := by
  rcases h with ⟨rfl, _⟩ | ⟨rfl, _⟩ | ⟨rfl, _⟩
  · exact Or.inl ⟨rfl, rfl⟩
  · exact Or.inr ⟨4, by decide, by decide, rfl, rfl⟩
  · exact Or.inr ⟨3, by decide, by decide, rfl, rfl⟩
theorem fy_Vrv {g_begun g_opened : Int32} {g_now : Int64} {g_endings g_lost g_got g_taken g_fault g_source : Int32} {g_varint : Int64} {g_found : Int32} {b_kinds b_extras b_state : Nat → Int32} {b_due : Nat → Int64} {b_placeOf b_used b_bodies b_sizes b_ended b_frame : Nat → Int32} {e L : Nat} {rr : Int32} (h : fy_V B s e L rr) (hB : fy_By g_source b_bodies b_frame B L) (he : e < 1000) : ∃ a2 vr, ∀ q : Int32 → SY → Prop, q rr (g_begun, g_opened, g_now, g_endings, g_lost, g_got, g_taken, g_fault, a2, nI L, g_source, vr, g_found, b_kinds, b_extras, b_state, b_due, b_placeOf, b_used, b_bodies, b_sizes, b_ended, b_frame) → wpY_readVarint q (g_begun, g_opened, g_now, g_endings, g_lost, g_got, g_taken, g_fault, nI s, nI L, g_source, g_varint, g_found, b_kinds, b_extras, b_state, b_due, b_placeOf, b_used, b_bodies, b_sizes, b_ended, b_frame) (nI e) := by
  rcases h with ⟨rfl, n, a, h1, h2, h3⟩ | ⟨rfl, n, h1, h2, h3, h4⟩ | ⟨rfl, h1, h2, h3⟩
  · exact ⟨_, _, fun q Q => fy_rvW hB h1 h2 h3 he Q⟩
  · exact ⟨_, _, fun q Q => fy_rv4 hB h1 h2 h3 (by omega) he Q⟩
  · exact ⟨_, _, fun q Q => fy_rv3 hB h1 h2 (by omega) he Q⟩
/-- the key is open, short or long -/
theorem fy_o1 {rr : Int32} (hs : fb_Sc sch) (t : fb_Tr sch B sz s ((e, ty, pa) :: r) none C) (hL : s < L) (hLz : L ≤ sz) (hz : sz ≤ 60) (hse : s < e) (h : fy_V B s e L rr) : fy_Ck sch B sz L (if rr = -1 then 0 else rr) := by
  obtain ⟨u1, u2, u3, u4, u5⟩ := fb_WStop (fb_W hs t).1
  refine fy_oe (rr := rr) hs t hL hLz hz hse (fy_Vr2 h) ?_
  intro g_begun g_opened g_now g_endings g_lost g_got g_taken g_fault g_varint g_found b_kinds b_extras b_state b_due b_placeOf b_used b_bodies b_sizes b_ended b_frame hy hB
  obtain ⟨a2, vr, K⟩ := fy_Vrv (g_begun := g_begun) (g_opened := g_opened) (g_now := g_now) (g_endings := g_endings) (g_lost := g_lost) (g_got := g_got) (g_taken := g_taken) (g_fault := g_fault) (g_varint := g_varint) (g_found := g_found) (b_kinds := b_kinds) (b_extras := b_extras) (b_state := b_state) (b_due := b_due) (b_placeOf := b_placeOf) (b_used := b_used) (b_sizes := b_sizes) (b_ended := b_ended) h hB (by omega)
  exact ⟨a2, vr, g_found, fun q Q => fy_ceR K (fy_Vn h) Q⟩
theorem fy_o2 {a : Int64} (hs : fb_Sc sch) (t : fb_Tr sch B sz s ((e, ty, pa) :: r) none C) (hLz : L ≤ sz) (hz : sz ≤ 60) (hse : s < e) (h : fb_Vr B s e L a) (hf : fb_f a = 0 ∨ ¬ (fb_w a = 0 ∨ fb_w a = 1 ∨ fb_w a = 2 ∨ fb_w a = 5)) : fy_Ck sch B sz L 2 := by
  obtain ⟨u1, u2, u3, u4, u5⟩ := fb_WStop (fb_W hs t).1
  refine fy_oe (rr := 2) hs t (fb_VrL h).1 hLz hz hse (Or.inr ⟨2, by decide, by decide, rfl, rfl⟩) ?_
  intro g_begun g_opened g_now g_endings g_lost g_got g_taken g_fault g_varint g_found b_kinds b_extras b_state b_due b_placeOf b_used b_bodies b_sizes b_ended b_frame hy hB
  exact ⟨_, _, g_found, fun q Q => fy_ceT hB h (Nat.le_refl _) (by omega) hf Q⟩
theorem fy_o3 {a : Int64} (hs : fb_Sc sch) (t : fb_Tr sch B sz s ((e, ty, pa) :: r) none C) (hLz : L ≤ sz) (hz : sz ≤ 60) (hse : s < e) (h : fb_Vr B s e L a) (hf : fb_f a ≠ 0) (hw : fb_w a = 0 ∨ fb_w a = 1 ∨ fb_w a = 2 ∨ fb_w a = 5) (hl : e < L + fb_le (fb_w a)) : fy_Ck sch B sz L 4 := by
  obtain ⟨u1, u2, u3, u4, u5⟩ := fb_WStop (fb_W hs t).1
  refine fy_oe (rr := 4) hs t (fb_VrL h).1 hLz hz hse (Or.inr ⟨4, by decide, by decide, rfl, rfl⟩) ?_
  intro g_begun g_opened g_now g_endings g_lost g_got g_taken g_fault g_varint g_found b_kinds b_extras b_state b_due b_placeOf b_used b_bodies b_sizes b_ended b_frame hy hB
  exact ⟨_, _, g_found, fun q Q => fy_ceK hB h (Nat.le_refl _) (by omega) hf hw (fy_c64s (fb_wlt a) (fb_VrL h).2.1 (by omega) hl Q)⟩
/-- the number or the count is open, short or long -/
theorem fy_o4 {rr : Int32} {s1 : Nat} {a : Int64} (hs : fb_Sc sch) (t : fb_Tr sch B sz s ((e, ty, pa) :: r) none C) (hLz : L ≤ sz) (hz : sz ≤ 60) (k : fb_Key B s e s1 a) (hs1 : s1 ≤ L) (hw : fb_w a = 0 ∨ fb_w a = 2) (h : fy_V B s1 e L rr) : fy_Ck sch B sz L (if rr = -1 then 0 else rr) := by
  obtain ⟨u1, u2, u3, u4, u5⟩ := fb_WStop (fb_W hs t).1
  have l1 := fb_KeyL k
  refine fy_oe (rr := rr) hs t (by omega) hLz hz k.1 (fy_Vr2 h) ?_
  intro g_begun g_opened g_now g_endings g_lost g_got g_taken g_fault g_varint g_found b_kinds b_extras b_state b_due b_placeOf b_used b_bodies b_sizes b_ended b_frame hy hB
  obtain ⟨a2, vr, K⟩ := fy_Vrv (g_begun := g_begun) (g_opened := g_opened) (g_now := g_now) (g_endings := g_endings) (g_lost := g_lost) (g_got := g_got) (g_taken := g_taken) (g_fault := g_fault) (g_varint := a) (g_found := g_found) (b_kinds := b_kinds) (b_extras := b_extras) (b_state := b_state) (b_due := b_due) (b_placeOf := b_placeOf) (b_used := b_used) (b_sizes := b_sizes) (b_ended := b_ended) h hB (by omega)
  refine ⟨a2, vr, g_found, fun q Q => fy_ceK hB k.2.1 hs1 (by omega) k.2.2.1 k.2.2.2.1 ?_⟩
  have hle := k.2.2.2.2
  rcases hw with hw | hw
  · rw [hw] at hle ⊢
    exact fy_c640 hle (by omega) K Q
  · rw [hw] at hle ⊢
    exact fy_c64e (show s1 + 1 ≤ e from hle) (by omega) K (fy_Vn h) Q
/-- the key ends at the last byte -/
theorem fy_o5 {a : Int64} (hs : fb_Sc sch) (t : fb_Tr sch B sz s ((e, ty, pa) :: r) none C) (hLz : L ≤ sz) (hz : sz ≤ 60) (k : fb_Key B s e L a) : fy_Ck sch B sz L 0 := by
  obtain ⟨u1, u2, u3, u4, u5⟩ := fb_WStop (fb_W hs t).1
  have l1 := fb_KeyL k
  have hle := k.2.2.2.2
  have hl := fb_le1 (fb_w a)
  have hv : fy_V B L e L (-1) := Or.inl ⟨rfl, 0, 0, ⟨by decide, fun j hj => absurd hj (by omega), rfl⟩, by omega, fun z => absurd z (by omega)⟩
  by_cases hw : fb_w a = 0 ∨ fb_w a = 2
  · exact fy_o4 hs t hLz hz k (Nat.le_refl _) hw hv
  · have hw' : fb_w a = 1 ∨ fb_w a = 5 := by
      have := k.2.2.2.1
      omega
    refine fy_oz (x := L + fb_le (fb_w a)) hs t (by omega) hLz hz k.1 (by omega) (by omega) ?_
    intro g_begun g_opened g_now g_endings g_lost g_got g_taken g_fault g_varint g_found b_kinds b_extras b_state b_due b_placeOf b_used b_bodies b_sizes b_ended b_frame hy hB
    exact ⟨a, g_found, fun q Q => fy_ceK hB k.2.1 (Nat.le_refl _) (by omega) k.2.2.1 k.2.2.2.1 (fy_c64f hw' hle (by omega) Q)⟩
/-- a fixed number's bytes -/
theorem fy_o6 {s1 : Nat} {a : Int64} (hs : fb_Sc sch) (t : fb_Tr sch B sz s ((e, ty, pa) :: r) none C) (hLz : L ≤ sz) (hz : sz ≤ 60) (k : fb_Key B s e s1 a) (hs1 : s1 ≤ L) (hw : fb_w a = 1 ∨ fb_w a = 5) (hL : L ≤ s1 + fb_le (fb_w a)) : fy_Ck sch B sz L 0 := by
  obtain ⟨u1, u2, u3, u4, u5⟩ := fb_WStop (fb_W hs t).1
  have l1 := fb_KeyL k
  have hle := k.2.2.2.2
  refine fy_oz (x := s1 + fb_le (fb_w a)) hs t (by omega) hLz hz k.1 (by omega) (by omega) ?_
  intro g_begun g_opened g_now g_endings g_lost g_got g_taken g_fault g_varint g_found b_kinds b_extras b_state b_due b_placeOf b_used b_bodies b_sizes b_ended b_frame hy hB
  exact ⟨a, g_found, fun q Q => fy_ceK hB k.2.1 hs1 (by omega) k.2.2.1 k.2.2.2.1 (fy_c64f hw hle (by omega) Q)⟩
/-- a number ends at the last byte -/
theorem fy_o7 {s1 : Nat} {a b : Int64} (hs : fb_Sc sch) (t : fb_Tr sch B sz s ((e, ty, pa) :: r) none C) (hLz : L ≤ sz) (hz : sz ≤ 60) (k : fb_Key B s e s1 a) (hw : fb_w a = 0) (hv : fb_Vr B s1 e L b) : fy_Ck sch B sz L 0 := by
  obtain ⟨u1, u2, u3, u4, u5⟩ := fb_WStop (fb_W hs t).1
  have l1 := fb_KeyL k
  have l2 := fb_VrL hv
  have hle := k.2.2.2.2
  refine fy_oz (x := L) hs t (by omega) hLz hz k.1 (by omega) (by omega) ?_
  intro g_begun g_opened g_now g_endings g_lost g_got g_taken g_fault g_varint g_found b_kinds b_extras b_state b_due b_placeOf b_used b_bodies b_sizes b_ended b_frame hy hB
  refine ⟨b, g_found, fun q Q => fy_ceK hB k.2.1 (by omega) (by omega) k.2.2.1 k.2.2.2.1 ?_⟩
  rw [hw] at hle ⊢
  exact fy_c640 hle (by omega) (fun q Q => fy_rv0 hB hv (by omega) (by omega) Q) Q
/-- a count that is too large -/
theorem fy_o8 {s1 : Nat} {a b : Int64} (hs : fb_Sc sch) (t : fb_Tr sch B sz s ((e, ty, pa) :: r) none C) (hLz : L ≤ sz) (hz : sz ≤ 60) (k : fb_Key B s e s1 a) (hw : fb_w a = 2) (hv : fb_Vr B s1 e L b) (hb : b < 0 ∨ ¬ b ≤ (nI (e - L)).toInt64) : fy_Ck sch B sz L 4 := by
  obtain ⟨u1, u2, u3, u4, u5⟩ := fb_WStop (fb_W hs t).1
  have l1 := fb_KeyL k
  have l2 := fb_VrL hv
  have hle := k.2.2.2.2
  refine fy_oe (rr := 4) hs t (by omega) hLz hz k.1 (Or.inr ⟨4, by decide, by decide, rfl, rfl⟩) ?_
  intro g_begun g_opened g_now g_endings g_lost g_got g_taken g_fault g_varint g_found b_kinds b_extras b_state b_due b_placeOf b_used b_bodies b_sizes b_ended b_frame hy hB
  refine ⟨nI L, b, g_found, fun q Q => fy_ceK hB k.2.1 (by omega) (by omega) k.2.2.1 k.2.2.2.1 ?_⟩
  rw [hw] at hle ⊢
  exact fy_c64n (show s1 + 1 ≤ e from hle) l2.2.1 (by omega) (fun q Q => fy_rv0 hB hv (by omega) (by omega) Q) hb Q
/-- a count, and what is skipped behind it -/
theorem fy_o9 {s1 s2 n : Nat} {a : Int64} (hs : fb_Sc sch) (t : fb_Tr sch B sz s ((e, ty, pa) :: r) none C) (hLz : L ≤ sz) (hz : sz ≤ 60) (k : fb_Key B s e s1 a) (hw : fb_w a = 2) (hv : fb_Vr B s1 e s2 (lN n)) (hn : s2 + n ≤ e) (h2 : s2 ≤ L) (hL : L ≤ s2 + n) (hk : fb_ky sch ty a = 0 ∨ ((fb_ky sch ty a - 1) / 4 = 3 ∧ n % 4 = 0) ∨ ((fb_ky sch ty a - 1) / 4 = 5 ∧ n % 8 = 0)) : fy_Ck sch B sz L 0 := by
  obtain ⟨u1, u2, u3, u4, u5⟩ := fb_WStop (fb_W hs t).1
  have l1 := fb_KeyL k
  have l2 := fb_VrL hv
  have hle := k.2.2.2.2
  refine fy_oz (x := s2 + n) hs t (by omega) hLz hz k.1 (by omega) (by omega) ?_
  intro g_begun g_opened g_now g_endings g_lost g_got g_taken g_fault g_varint g_found b_kinds b_extras b_state b_due b_placeOf b_used b_bodies b_sizes b_ended b_frame hy hB
  refine ⟨lN n, g_found, fun q Q => fy_ceK hB k.2.1 (by omega) (by omega) k.2.2.1 k.2.2.2.1 ?_⟩
  rw [hw] at hle ⊢
  exact fy_c64c hy hs u3 k.2.2.1 hw (show s1 + 1 ≤ e from hle) hn (by omega) (by omega) (fun q Q => fy_rv0 hB hv (by omega) (by omega) Q) (fun _ => Q) (fun z z6 => absurd z6 (by omega)) (fun z zz => absurd zz (by omega)) (fun _ _ => Q) (fun z z6 z3 z5 => absurd hk (by omega))
/-- a count that doesn't fit its kind, or a message too deep -/
theorem fy_o10 {s1 n f : Nat} {a : Int64} (hs : fb_Sc sch) (t : fb_Tr sch B sz s ((e, ty, pa) :: r) none C) (hLz : L ≤ sz) (hz : sz ≤ 60) (k : fb_Key B s e s1 a) (hw : fb_w a = 2) (hv : fb_Vr B s1 e L (lN n)) (hn : L + n ≤ e) (h0 : fb_ky sch ty a ≠ 0)
    (hk : (f = 4 ∧ (((fb_ky sch ty a - 1) / 4 = 3 ∧ n % 4 ≠ 0) ∨ ((fb_ky sch ty a - 1) / 4 = 5 ∧ n % 8 ≠ 0))) ∨ (f = 5 ∧ (fb_ky sch ty a - 1) / 4 = 6 ∧ r.length = 2)) : fy_Ck sch B sz L (nI f) := by
  obtain ⟨u1, u2, u3, u4, u5⟩ := fb_WStop (fb_W hs t).1
  have l1 := fb_KeyL k
  have l2 := fb_VrL hv
  have hle := k.2.2.2.2
  refine fy_oe (rr := nI f) hs t (by omega) hLz hz k.1 (Or.inr ⟨f, by omega, by omega, rfl, rfl⟩) ?_
  intro g_begun g_opened g_now g_endings g_lost g_got g_taken g_fault g_varint g_found b_kinds b_extras b_state b_due b_placeOf b_used b_bodies b_sizes b_ended b_frame hy hB
  refine ⟨nI L, lN n, g_found, fun q Q => fy_ceK hB k.2.1 (by omega) (by omega) k.2.2.1 k.2.2.2.1 ?_⟩
  rw [hw] at hle ⊢
  refine fy_c64c hy hs u3 k.2.2.1 hw (show s1 + 1 ≤ e from hle) hn (by omega) (by omega) (fun q Q => fy_rv0 hB hv (by omega) (by omega) Q) (fun z => absurd z h0) (fun z z6 => ⟨fun _ => ?_, fun z3 => absurd hk (by omega)⟩) (fun z zz => ?_) (fun z zz => absurd hk (by omega)) (fun z z6 z3 z5 => absurd hk (by omega))
  · rcases hk with ⟨h, hh⟩ | ⟨h, hh⟩
    · omega
    · subst h; exact Q
  · rcases hk with ⟨h, hh⟩ | ⟨h, hh⟩
    · subst h; exact Q
    · omega
/-- a count, and a message or packed varints begin -/
theorem fy_o11 {s1 n : Nat} {a : Int64} (hs : fb_Sc sch) (t : fb_Tr sch B sz s ((e, ty, pa) :: r) none C) (hLz : L ≤ sz) (hz : sz ≤ 60) (k : fb_Key B s e s1 a) (hw : fb_w a = 2) (hv : fb_Vr B s1 e L (lN n)) (hn : L + n ≤ e) (h0 : fb_ky sch ty a ≠ 0)
    (h3 : (fb_ky sch ty a - 1) / 4 ≠ 3) (h5 : (fb_ky sch ty a - 1) / 4 ≠ 5) (h6 : (fb_ky sch ty a - 1) / 4 = 6 → r.length < 2) : fy_Ck sch B sz L 0 := by
  obtain ⟨u1, u2, u3, u4, u5⟩ := fb_WStop (fb_W hs t).1
  have l1 := fb_KeyL k
  have l2 := fb_VrL hv
  have hle := k.2.2.2.2
  refine fy_op (x := L) (m := n) (k := if (fb_ky sch ty a - 1) / 4 = 6 then (fb_ky sch ty a - 1) % 4 else 15) hs t (by omega) hLz hz k.1 (by omega) (by omega) (by split <;> omega) ?_
  intro g_begun g_opened g_now g_endings g_lost g_got g_taken g_fault g_varint g_found b_kinds b_extras b_state b_due b_placeOf b_used b_bodies b_sizes b_ended b_frame hy hB q Q
  refine fy_ceK hB k.2.1 (by omega) (by omega) k.2.2.1 k.2.2.2.1 ?_
  rw [hw] at hle ⊢
  refine fy_c64c hy hs u3 k.2.2.1 hw (show s1 + 1 ≤ e from hle) hn (by omega) (by omega) (fun q Q => fy_rv0 hB hv (by omega) (by omega) Q) (fun z => absurd z h0) (fun z z6 => ⟨fun z3 => absurd (h6 z6) (by omega), fun z3 => ?_⟩) (fun z zz => absurd zz (by omega)) (fun z zz => absurd zz (by omega)) (fun z z6 z3 z5 => ?_)
  · rw [if_pos z6] at Q; exact Q
  · rw [if_neg z6] at Q; exact Q
/-- packed varints -/
theorem fy_o12 {rr : Int32} {pe en f : Nat} (hs : fb_Sc sch) (t : fb_Tr sch B sz s ((e, ty, pa) :: r) (some (pe, en, f)) C) (hL : s < L) (hLz : L ≤ sz) (hz : sz ≤ 60) (hse : s < pe) (h3 : (en - 1) / 4 ≠ 3) (h5 : (en - 1) / 4 ≠ 5) (h : fy_V B s pe L rr ∨ (rr = 0 ∧ ∃ b, fb_Vr B s pe L b)) : fy_Ck sch B sz L (if rr = -1 then 0 else rr) := by
  refine fy_run hs t hL hLz hz ?_
  intro g_begun g_opened g_now g_endings g_lost g_taken g_fault g_varint g_found b_kinds b_extras b_state b_due b_placeOf b_used b_bodies b_sizes b_ended b_frame at' lvl T E st hy hB hc hst
  obtain ⟨w1, w2, w3⟩ := fy_enc2 (fb_W hs t).1 hz
  obtain ⟨u1, u2, u3, u4, u5⟩ := fb_WStop (fb_W hs t).1
  have hpe : pe ≤ e := by
    obtain ⟨e', ty', pa', r', hh, h1, h2, _⟩ := (fb_W hs t).2 pe en f rfl
    cases hh
    exact h2
  rcases hc with ⟨h, _⟩ | ⟨pe', en', f', h, hk, rfl, rfl, rfl, rfl⟩ | ⟨pe', en', f', hp, hk, rfl, rfl, rfl, rfl⟩
  · cases h
  · cases h; exact absurd hk (by omega)
  · cases hp
    rcases h with h | ⟨rfl, b, h⟩
    · obtain ⟨a2, vr, K⟩ := fy_Vrv (g_begun := g_begun) (g_opened := g_opened) (g_now := g_now) (g_endings := g_endings) (g_lost := g_lost) (g_got := nI (L + 2)) (g_taken := g_taken) (g_fault := g_fault) (g_varint := g_varint) (g_found := g_found) (b_kinds := b_kinds) (b_extras := b_extras) (b_state := b_state) (b_due := b_due) (b_placeOf := b_placeOf) (b_used := b_used) (b_sizes := b_sizes) (b_ended := b_ended) h hB (by omega)
      refine ⟨a2, vr, g_found, fun post P => ?_⟩
      refine fy_ckP (e := pe) (by omega) (by omega) (by omega) (by omega) (by omega) (by omega) (by omega) (by omega) K ?_
      rcases fy_Vr2 h with ⟨h1, h2⟩ | ⟨f, h1, h2, h3, h4⟩
      · rw [h2] at P; rw [h1]; exact fy_17w P
      · rw [h4] at P; rw [h3]; exact fy_17f h1 h2 P
    · refine ⟨nI L, b, g_found, fun post P => ?_⟩
      exact fy_ckP (e := pe) (by omega) (by omega) (by omega) (by omega) (by omega) (by omega) (by omega) (by omega) (fun q Q => fy_rv0 hB h (by omega) (by omega) Q) (fy_17z (fy_ckX (by omega) (Nat.le_refl _) (by omega) P))
/-- packed fixed numbers -/
theorem fy_o13 {pe en f : Nat} (hs : fb_Sc sch) (t : fb_Tr sch B sz s ((e, ty, pa) :: r) (some (pe, en, f)) C) (hL : s < L) (hLz : L ≤ sz) (hz : sz ≤ 60) (hse : L ≤ pe) (h3 : (en - 1) / 4 = 3 ∨ (en - 1) / 4 = 5) : fy_Ck sch B sz L 0 := by
  refine fy_run hs t hL hLz hz ?_
  intro g_begun g_opened g_now g_endings g_lost g_taken g_fault g_varint g_found b_kinds b_extras b_state b_due b_placeOf b_used b_bodies b_sizes b_ended b_frame at' lvl T E st hy hB hc hst
  obtain ⟨w1, w2, w3⟩ := fy_enc2 (fb_W hs t).1 hz
  obtain ⟨u1, u2, u3, u4, u5⟩ := fb_WStop (fb_W hs t).1
  have hpe : pe ≤ e := by
    obtain ⟨e', ty', pa', r', hh, h1, h2, _⟩ := (fb_W hs t).2 pe en f rfl
    cases hh
    exact h2
  rcases hc with ⟨h, _⟩ | ⟨pe', en', f', h, hk, rfl, rfl, rfl, rfl⟩ | ⟨pe', en', f', hp, hk, rfl, rfl, rfl, rfl⟩
  · cases h
  · cases h
    exact ⟨nI pe, g_varint, g_found, fun post P => fy_ckX (by omega) hse (by omega) P⟩
  · cases hp; exact absurd h3 hk
end
end
section
/-! the pool of cells -/
theorem fa_hdn {l : List Nat} (h : ∀ x, x ∈ l → x < 512) : vp_nar .short (fa_hd l).toInt16.toInt32 = fa_hd l := by
  match l with
  | [] => exact fa_ms'
  | x :: r => exact fa_ns (h x List.mem_cons_self)
theorem fa_hdn' {l : List Nat} (h : ∀ x, x ∈ l → x < 512) : vp_nar .short (fa_hd l) = fa_hd l := by
  match l with
  | [] => exact fa_ms
  | x :: r => exact fa_ns' (h x List.mem_cons_self)
theorem fa_hda {l m : List Nat} (h : l ≠ []) : fa_hd (l ++ m) = fa_hd l := by
  match l with
  | [] => exact absurd rfl h
  | x :: r => rfl
/-- a chain of links that ends with -1 -/
def fh_Ch (nx : Nat → Int32) : List Nat → Prop
  | [] => True
  | x :: l => nx x = fa_hd l ∧ fh_Ch nx l
theorem fh_ChC {nx nx' : Nat → Int32} : ∀ {l}, fh_Ch nx l → (∀ x, x ∈ l → nx' x = nx x) → fh_Ch nx' l
  | [], _, _ => trivial
  | x :: l, h, g => ⟨(g x List.mem_cons_self).trans h.1, fh_ChC h.2 (fun y hy => g y (List.mem_cons_of_mem _ hy))⟩
theorem fh_ChU {nx : Nat → Int32} {l : List Nat} {c : Nat} {v : Int32} (h : fh_Ch nx l) (hc : c ∉ l) : fh_Ch (upd nx c v) l :=
  fh_ChC h (fun _ hx => pk_un (fun z => hc (z ▸ hx)))
/-- a chain with another list hung behind it -/
theorem fh_ChA {nx : Nat → Int32} {y : Nat} {W : List Nat} : ∀ {A : List Nat}, fh_Ch nx (A ++ [y]) → (A ++ [y]).Nodup → fh_Ch nx W → y ∉ W → fh_Ch (upd nx y (fa_hd W)) (A ++ [y] ++ W)
  | [], _, _, hW, hy => ⟨pk_us, fh_ChU hW hy⟩
  | a :: A, h, hn, hW, hy => by
    rw [List.cons_append, List.nodup_cons] at hn
    have ha : a ≠ y := fun z => hn.1 (by rw [z]; simp)
    have ih := fh_ChA (A := A) h.2 hn.2 hW hy
    refine ⟨?_, ih⟩
    rw [pk_un ha]
    have h1 : nx a = fa_hd (A ++ [y]) := h.1
    rw [h1]
    exact (fa_hda (by simp)).symm
/-- cell c's list of cells -/
def fh_Kd (fi la nx : Nat → Int32) (c : Nat) (l : List Nat) : Prop := fi c = fa_hd l ∧ (∀ A x, l = A ++ [x] → la c = nI x) ∧ fh_Ch nx l
/-- the free cells -/
def fh_FC (nx : Nat → Int32) : List Nat → Int32 → Prop
  | [], s => s = nI 427
  | x :: l, s => s = nI x ∧ fh_FC nx l (nx x)
theorem fh_FCC {nx nx' : Nat → Int32} : ∀ {l s}, fh_FC nx l s → (∀ x, x ∈ l → nx' x = nx x) → fh_FC nx' l s
  | [], _, h, _ => h
  | x :: l, s, h, g => ⟨h.1, by rw [g x List.mem_cons_self]; exact fh_FCC h.2 (fun y hy => g y (List.mem_cons_of_mem _ hy))⟩
theorem fh_FCn {nx : Nat → Int32} {l : List Nat} {s : Int32} (h : fh_FC nx l s) (hl : ∀ x, x ∈ l → x < 427) : ∃ k, k ≤ 427 ∧ s = nI k := by
  match l with
  | [] => exact ⟨427, Nat.le_refl _, h⟩
  | x :: r => exact ⟨x, Nat.le_of_lt (hl x List.mem_cons_self), h.1⟩
/-- P: all cells under the list W, in the order in which drop comes to them -/
def fh_Pre (kd : Nat → List Nat) : List Nat → List Nat → Prop
  | [], W => W = []
  | c :: P, W => ∃ W', W = c :: W' ∧ fh_Pre kd P (kd c ++ W')
theorem fh_PreC {kd kd' : Nat → List Nat} : ∀ {P W}, fh_Pre kd P W → (∀ x, x ∈ P → kd' x = kd x) → fh_Pre kd' P W
  | [], _, h, _ => h
  | c :: P, W, ⟨W', e, h⟩, g => ⟨W', e, by rw [g c List.mem_cons_self]; exact fh_PreC h (fun y hy => g y (List.mem_cons_of_mem _ hy))⟩
theorem fh_PreS {kd : Nat → List Nat} : ∀ {P W}, fh_Pre kd P W → W.Sublist P
  | [], W, h => by rw [show W = [] from h]; exact List.Sublist.slnil
  | c :: P, W, ⟨W', e, h⟩ => by
    rw [e]
    have := fh_PreS h
    exact List.Sublist.cons_cons c (List.Sublist.trans (List.sublist_append_right _ _) this)
theorem fh_PreK {kd : Nat → List Nat} : ∀ {P W}, fh_Pre kd P W → ∀ {x y}, x ∈ P → y ∈ kd x → y ∈ P
  | [], _, _, _, _, hx, _ => nomatch hx
  | c :: P, W, ⟨W', e, h⟩, x, y, hx, hy => by
    rw [List.mem_cons] at hx
    rcases hx with hx | hx
    · subst hx
      exact List.mem_cons_of_mem _ ((fh_PreS h).subset (List.mem_append_left _ hy))
    · exact List.mem_cons_of_mem _ (fh_PreK h hx hy)
theorem fh_PreW {kd : Nat → List Nat} : ∀ {P W}, fh_Pre kd P W → P.Nodup → ∀ {y b}, y ∈ W → b ∈ P → y ∈ kd b → False
  | [], _, _, _, _, _, _, hb, _ => nomatch hb
  | d :: P, W, ⟨W', e, h⟩, hn, y, b, hy, hb, hk => by
    subst e
    rw [List.nodup_cons] at hn
    have hs := fh_PreS h
    rw [List.mem_cons] at hy hb
    rcases hy with hy | hy
    · subst hy
      rcases hb with hb | hb
      · subst hb; exact hn.1 (hs.subset (List.mem_append_left _ hk))
      · exact hn.1 (fh_PreK h hb hk)
    · rcases hb with hb | hb
      · subst hb
        have := hs.nodup hn.2
        rw [List.nodup_append] at this
        exact this.2.2 _ hk _ hy rfl
      · exact fh_PreW h hn.2 (List.mem_append_right _ hy) hb hk
theorem fh_PreD {kd : Nat → List Nat} : ∀ {P W}, fh_Pre kd P W → P.Nodup → ∀ {a b y}, a ∈ P → b ∈ P → y ∈ kd a → y ∈ kd b → a = b
  | [], _, _, _, _, _, _, ha, _, _, _ => nomatch ha
  | c :: P, W, ⟨W', e, h⟩, hn, a, b, y, ha, hb, ka, kb => by
    rw [List.nodup_cons] at hn
    rw [List.mem_cons] at ha hb
    rcases ha with ha | ha <;> rcases hb with hb | hb
    · rw [ha, hb]
    · subst ha; exact (fh_PreW h hn.2 (List.mem_append_left _ ka) hb kb).elim
    · subst hb; exact (fh_PreW h hn.2 (List.mem_append_left _ kb) ha ka).elim
    · exact fh_PreD h hn.2 ha hb ka kb
theorem fh_PreN {kd : Nat → List Nat} : ∀ {P W}, fh_Pre kd P W → P.Nodup → ∀ {a}, a ∈ P → (kd a).Nodup
  | [], _, _, _, _, ha => nomatch ha
  | c :: P, W, ⟨W', e, h⟩, hn, a, ha => by
    rw [List.nodup_cons] at hn
    rw [List.mem_cons] at ha
    rcases ha with ha | ha
    · subst ha
      have := (fh_PreS h).nodup hn.2
      rw [List.nodup_append] at this
      exact this.1
    · exact fh_PreN h hn.2 ha
theorem fh_PreI {kd : Nat → List Nat} {c : Nat} (hc : kd c = []) : ∀ {P A W}, fh_Pre kd P (A ++ W) → ∃ P', P'.Perm (c :: P) ∧ fh_Pre kd P' (A ++ c :: W)
  | [], A, W, h => by
    have h' : A ++ W = [] := h
    rw [List.append_eq_nil_iff] at h'
    rw [h'.1, h'.2]
    exact ⟨[c], List.Perm.refl _, [], rfl, by rw [hc]; rfl⟩
  | x :: P, [], W, h => ⟨c :: x :: P, List.Perm.refl _, W, rfl, by rw [hc]; exact h⟩
  | x :: P, a :: A, W, ⟨W', e, h⟩ => by
    rw [List.cons_append, List.cons_eq_cons] at e
    obtain ⟨e1, e2⟩ := e
    subst e1 e2
    rw [← List.append_assoc] at h
    obtain ⟨P', h1, h2⟩ := fh_PreI hc h
    refine ⟨a :: P', (h1.cons a).trans (List.Perm.swap _ _ _), A ++ c :: W, rfl, ?_⟩
    rw [← List.append_assoc]
    exact h2
/-- cell c, new, at the end of m's list -/
def fh_kd (kd : Nat → List Nat) (m c : Nat) : Nat → List Nat := fun x => if x = m then kd m ++ [c] else if x = c then [] else kd x
theorem fh_PreM {kd : Nat → List Nat} {m c : Nat} (hmc : m ≠ c) : ∀ {P W}, fh_Pre kd P W → P.Nodup → m ∈ P → c ∉ P → ∃ P', P'.Perm (c :: P) ∧ fh_Pre (fh_kd kd m c) P' W
  | [], _, _, _, hm, _ => nomatch hm
  | x :: P, W, ⟨W', e, h⟩, hn, hm, hc => by
    rw [List.nodup_cons] at hn
    have hc' : c ∉ P := fun z => hc (List.mem_cons_of_mem _ z)
    have hxc : x ≠ c := fun z => hc (by rw [z]; exact List.mem_cons_self)
    by_cases hx : x = m
    · subst hx
      have h1 : fh_Pre (fh_kd kd x c) P (kd x ++ W') := fh_PreC h (fun y hy => by
        unfold fh_kd
        rw [if_neg (fun z : y = x => hn.1 (z ▸ hy)), if_neg (fun z : y = c => hc' (z ▸ hy))])
      obtain ⟨P', p1, p2⟩ := fh_PreI (c := c) (by unfold fh_kd; rw [if_neg (Ne.symm hmc), if_pos rfl]) h1
      refine ⟨x :: P', (p1.cons x).trans (List.Perm.swap _ _ _), W', e, ?_⟩
      have ek : fh_kd kd x c x = kd x ++ [c] := if_pos rfl
      rw [ek, List.append_assoc]
      exact p2
    · rw [List.mem_cons] at hm
      have hm' := hm.resolve_left (fun z => hx z.symm)
      obtain ⟨P', p1, p2⟩ := fh_PreM hmc h hn.2 hm' hc'
      refine ⟨x :: P', (p1.cons x).trans (List.Perm.swap _ _ _), W', e, ?_⟩
      have ek : fh_kd kd m c x = kd x := by unfold fh_kd; rw [if_neg hx, if_neg hxc]
      rw [ek]
      exact p2
def fh_sum (g : Nat → Nat) : Nat → Nat
  | 0 => 0
  | n + 1 => fh_sum g n + g n
theorem fh_sumC {g g' : Nat → Nat} : ∀ {n}, (∀ i, i < n → g' i = g i) → fh_sum g' n = fh_sum g n
  | 0, _ => rfl
  | n + 1, h => by
    have := fh_sumC (n := n) (fun i hi => h i (by omega))
    simp only [fh_sum, this, h n (by omega)]
theorem fh_sumU {g g' : Nat → Nat} {j : Nat} : ∀ {n}, j < n → (∀ i, i < n → i ≠ j → g' i = g i) → fh_sum g' n + g j = fh_sum g n + g' j
  | 0, h, _ => absurd h (by omega)
  | n + 1, hj, h => by
    simp only [fh_sum]
    by_cases e : j = n
    · subst e
      have := fh_sumC (g := g) (g' := g') (n := j) (fun i hi => h i (by omega) (by omega))
      omega
    · have := fh_sumU (g := g) (g' := g') (j := j) (n := n) (by omega) (fun i hi hn => h i (by omega) hn)
      have := h n (by omega) (fun z => e z.symm)
      omega
theorem fh_sumL {g : Nat → Nat} {j : Nat} : ∀ {n}, j < n → g j ≤ fh_sum g n
  | 0, h => absurd h (by omega)
  | n + 1, hj => by
    simp only [fh_sum]
    by_cases e : j = n
    · subst e; omega
    · have := fh_sumL (g := g) (j := j) (n := n) (by omega); omega
theorem fh_sum2 {g : Nat → Nat} {i j : Nat} (hij : i ≠ j) : ∀ {n}, i < n → j < n → g i + g j ≤ fh_sum g n
  | 0, h, _ => absurd h (by omega)
  | n + 1, hi, hj => by
    simp only [fh_sum]
    by_cases e : j = n
    · subst e
      have := fh_sumL (g := g) (j := i) (n := j) (by omega); omega
    · by_cases e2 : i = n
      · subst e2
        have := fh_sumL (g := g) (j := j) (n := i) (by omega); omega
      · have := fh_sum2 (g := g) hij (n := n) (by omega) (by omega); omega
/-- the whole pool: free cells Fl, seven trees PL with roots rt -/
def fh_Hp (nx fi la : Nat → Int32) (fr : Int32) (kd : Nat → List Nat) (Fl : List Nat) (PL : Nat → List Nat) (rt : Nat → Nat) : Prop :=
  (∀ y, Fl.count y + fh_sum (fun j => (PL j).count y) 7 = if y < 427 then 1 else 0) ∧
  Fl.length + fh_sum (fun j => (PL j).length) 7 = 427 ∧
  fh_FC nx Fl fr ∧
  (∀ j, j < 7 → PL j = [] ∨ fh_Pre kd (PL j) [rt j]) ∧
  (∀ j, j < 7 → ∀ c, c ∈ PL j → fh_Kd fi la nx c (kd c))
section
variable {nx fi la : Nat → Int32} {fr : Int32} {kd : Nat → List Nat} {Fl : List Nat} {PL : Nat → List Nat} {rt : Nat → Nat}
theorem fh_HpL (h : fh_Hp nx fi la fr kd Fl PL rt) {j x : Nat} (hj : j < 7) (hx : x ∈ PL j) : x < 427 := by
  have h1 := h.1 x
  have h2 := fh_sumL (g := fun j => (PL j).count x) hj
  have h3 := List.count_pos_iff.mpr hx
  split at h1
  · assumption
  · omega
theorem fh_HpF (h : fh_Hp nx fi la fr kd Fl PL rt) {x : Nat} (hx : x ∈ Fl) : x < 427 := by
  have h1 := h.1 x
  have h3 := List.count_pos_iff.mpr hx
  split at h1
  · assumption
  · omega
theorem fh_HpN (h : fh_Hp nx fi la fr kd Fl PL rt) {j : Nat} (hj : j < 7) : (PL j).Nodup := by
  rw [List.nodup_iff_count]
  intro x
  have h1 := h.1 x
  have h2 := fh_sumL (g := fun j => (PL j).count x) hj
  split at h1 <;> omega
theorem fh_HpFN (h : fh_Hp nx fi la fr kd Fl PL rt) : Fl.Nodup := by
  rw [List.nodup_iff_count]
  intro x
  have h1 := h.1 x
  split at h1 <;> omega
theorem fh_HpX (h : fh_Hp nx fi la fr kd Fl PL rt) {i j x : Nat} (hi : i < 7) (hj : j < 7) (hx : x ∈ PL i) (hy : x ∈ PL j) : i = j := by
  by_cases e : i = j
  · exact e
  · have h1 := h.1 x
    have h2 := fh_sum2 (g := fun j => (PL j).count x) e hi hj
    have h3 := List.count_pos_iff.mpr hx
    have h4 := List.count_pos_iff.mpr hy
    split at h1 <;> omega
theorem fh_HpY (h : fh_Hp nx fi la fr kd Fl PL rt) {j x : Nat} (hj : j < 7) (hx : x ∈ PL j) : x ∉ Fl := by
  intro hy
  have h1 := h.1 x
  have h2 := fh_sumL (g := fun j => (PL j).count x) hj
  have h3 := List.count_pos_iff.mpr hx
  have h4 := List.count_pos_iff.mpr hy
  split at h1 <;> omega
theorem fh_HpP (h : fh_Hp nx fi la fr kd Fl PL rt) {j x : Nat} (hj : j < 7) (hx : x ∈ PL j) : fh_Pre kd (PL j) [rt j] := by
  rcases h.2.2.2.1 j hj with e | e
  · rw [e] at hx; exact nomatch hx
  · exact e
theorem fh_HpK (h : fh_Hp nx fi la fr kd Fl PL rt) {j x y : Nat} (hj : j < 7) (hx : x ∈ PL j) (hy : y ∈ kd x) : y ∈ PL j := fh_PreK (fh_HpP h hj hx) hx hy
def fh_up (PL : Nat → List Nat) (j : Nat) (l : List Nat) : Nat → List Nat := fun i => if i = j then l else PL i
theorem fh_up_s (PL : Nat → List Nat) (j : Nat) (l : List Nat) : fh_up PL j l j = l := if_pos rfl
theorem fh_up_n {PL : Nat → List Nat} {j i : Nat} {l : List Nat} (h : i ≠ j) : fh_up PL j l i = PL i := if_neg h
/-- there is a free cell -/
theorem fh_room (h : fh_Hp nx fi la fr kd Fl PL rt) {a : Nat} (ha : a ≤ 60) (h5 : ∀ j, j < 6 → (PL j).length ≤ 61) (h6 : (PL 6).length ≤ a) : ∃ c Fl', Fl = c :: Fl' ∧ fr = nI c ∧ c < 427 := by
  match hF : Fl with
  | [] =>
    have h2 := h.2.1
    simp only [hF, fh_sum, List.length_nil] at h2
    have a0 := h5 0 (by omega)
    have a1 := h5 1 (by omega)
    have a2 := h5 2 (by omega)
    have a3 := h5 3 (by omega)
    have a4 := h5 4 (by omega)
    have a5 := h5 5 (by omega)
    omega
  | c :: Fl' =>
    subst hF
    exact ⟨c, Fl', rfl, h.2.2.1.1, fh_HpF h List.mem_cons_self⟩
/-- the new root -/
theorem fh_root {c : Nat} {Fl' : List Nat} (h : fh_Hp nx fi la fr kd (c :: Fl') PL rt) (h6 : PL 6 = []) : fh_Hp (upd nx c (-1)) (upd fi c (-1)) la (nx c) (fun x => if x = c then [] else kd x) Fl' (fh_up PL 6 [c]) (fun j => if j = 6 then c else rt j) := by
  have hcF : c ∉ Fl' := (List.nodup_cons.mp (fh_HpFN h)).1
  have hcP : ∀ j, j < 7 → c ∉ PL j := fun j hj hx => fh_HpY h hj hx List.mem_cons_self
  refine ⟨fun y => ?_, ?_, ?_, fun j hj => ?_, fun j hj x hx => ?_⟩
  · have h1 := h.1 y
    have h2 := fh_sumU (g := fun j => (PL j).count y) (g' := fun j => (fh_up PL 6 [c] j).count y) (j := 6) (n := 7) (by omega) (fun i _ hi => by simp only [fh_up_n hi])
    simp only [fh_up_s, h6, List.count_nil] at h2
    rw [← h1, List.count_cons]
    have h3 : List.count y [c] = if (c == y) = true then 1 else 0 := by rw [List.count_cons, List.count_nil, Nat.zero_add]
    rw [h3] at h2
    omega
  · have h1 := h.2.1
    have h2 := fh_sumU (g := fun j => (PL j).length) (g' := fun j => (fh_up PL 6 [c] j).length) (j := 6) (n := 7) (by omega) (fun i _ hi => by simp only [fh_up_n hi])
    simp only [fh_up_s, h6, List.length_nil, List.length_cons] at h2 h1
    omega
  · exact fh_FCC h.2.2.1.2 (fun x hx => pk_un (fun z => hcF (z ▸ hx)))
  · by_cases e : j = 6
    · subst e
      refine Or.inr ?_
      dsimp only
      rw [fh_up_s, if_pos rfl]
      refine ⟨[], rfl, ?_⟩
      dsimp only
      rw [if_pos rfl]; rfl
    · dsimp only
      rw [fh_up_n e, if_neg e]
      rcases h.2.2.2.1 j hj with z | z
      · exact Or.inl z
      · exact Or.inr (fh_PreC z (fun x hx => if_neg (fun y : x = c => hcP j hj (y ▸ hx))))
  · by_cases e : j = 6
    · subst e
      rw [fh_up_s, List.mem_singleton] at hx
      subst hx
      dsimp only
      rw [if_pos rfl]
      exact ⟨pk_us, fun A y hy => by simp at hy, trivial⟩
    · rw [fh_up_n e] at hx
      have hxc : x ≠ c := fun z => hcP j hj (z ▸ hx)
      dsimp only
      rw [if_neg hxc]
      obtain ⟨k1, k2, k3⟩ := h.2.2.2.2 j hj x hx
      exact ⟨(pk_un hxc).trans k1, k2, fh_ChU k3 (fun z => hcP j hj (fh_HpK h hj hx z))⟩
/-- a new cell at the end of message m's list -/
theorem fh_app {c m : Nat} {Fl' : List Nat} {nx' fi' : Nat → Int32} (h : fh_Hp nx fi la fr kd (c :: Fl') PL rt) (hm : m ∈ PL 6)
    (hx : (kd m = [] ∧ nx' = upd nx c (-1) ∧ fi' = upd (upd fi c (-1)) m (nI c)) ∨ (∃ A y, kd m = A ++ [y] ∧ nx' = upd (upd nx c (-1)) y (nI c) ∧ fi' = upd fi c (-1))) :
    ∃ P', P'.Perm (c :: PL 6) ∧ fh_Hp nx' fi' (upd la m (nI c)) (nx c) (fh_kd kd m c) Fl' (fh_up PL 6 P') rt := by
  have hcF : c ∉ Fl' := (List.nodup_cons.mp (fh_HpFN h)).1
  have hcP : ∀ j, j < 7 → c ∉ PL j := fun j hj hx => fh_HpY h hj hx List.mem_cons_self
  have hN := fh_HpN h (j := 6) (by omega)
  have hmc : m ≠ c := fun z => hcP 6 (by omega) (z ▸ hm)
  have hpre := fh_HpP h (by omega) hm
  obtain ⟨P', p1, p2⟩ := fh_PreM hmc hpre hN hm (hcP 6 (by omega))
  have kdc : fh_kd kd m c c = [] := by unfold fh_kd; rw [if_neg (Ne.symm hmc), if_pos rfl]
  have kdm : fh_kd kd m c m = kd m ++ [c] := if_pos rfl
  have kdn : ∀ x, x ≠ m → x ≠ c → fh_kd kd m c x = kd x := fun x h1 h2 => by unfold fh_kd; rw [if_neg h1, if_neg h2]
  have hnx : ∀ x, x ≠ c → x ∉ kd m → nx' x = nx x := by
    intro x h1 h2
    rcases hx with ⟨_, e, _⟩ | ⟨A, y, ey, e, _⟩
    · rw [e, pk_un h1]
    · rw [e, pk_un (fun z => h2 (by rw [ey, z]; simp)), pk_un h1]
  have hfi : ∀ x, x ≠ c → x ≠ m → fi' x = fi x := by
    intro x h1 h2
    rcases hx with ⟨_, _, e⟩ | ⟨A, y, _, _, e⟩
    · rw [e, pk_un h2, pk_un h1]
    · rw [e, pk_un h1]
  have hfc : fi' c = -1 := by
    rcases hx with ⟨_, _, e⟩ | ⟨A, y, _, _, e⟩
    · rw [e, pk_un (Ne.symm hmc), pk_us]
    · rw [e, pk_us]
  refine ⟨P', p1, fun y => ?_, ?_, ?_, fun j hj => ?_, fun j hj x hxj => ?_⟩
  · have h1 := h.1 y
    have h2 := fh_sumU (g := fun j => (PL j).count y) (g' := fun j => (fh_up PL 6 P' j).count y) (j := 6) (n := 7) (by omega) (fun i _ hi => by simp only [fh_up_n hi])
    have h3 := List.perm_iff_count.mp p1 y
    rw [List.count_cons] at h3
    simp only [fh_up_s] at h2
    rw [← h1, List.count_cons]
    omega
  · have h1 := h.2.1
    have h2 := fh_sumU (g := fun j => (PL j).length) (g' := fun j => (fh_up PL 6 P' j).length) (j := 6) (n := 7) (by omega) (fun i _ hi => by simp only [fh_up_n hi])
    have h3 := p1.length_eq
    simp only [fh_up_s, List.length_cons] at h1 h2 h3
    omega
  · refine fh_FCC h.2.2.1.2 (fun x hx => hnx x (fun z => hcF (z ▸ hx)) (fun z => ?_))
    exact fh_HpY h (by omega) (fh_HpK h (j := 6) (by omega) hm z) (List.mem_cons_of_mem _ hx)
  · by_cases e : j = 6
    · subst e
      rw [fh_up_s]; exact Or.inr p2
    · rw [fh_up_n e]
      rcases h.2.2.2.1 j hj with z | z
      · exact Or.inl z
      · refine Or.inr (fh_PreC z (fun x hx => kdn x (fun y => ?_) (fun y => hcP j hj (y ▸ hx))))
        exact e (fh_HpX h hj (by omega) (y ▸ hx) hm)
  · have key : ∀ x, x ∈ PL j → x ≠ m → fh_Kd fi' (upd la m (nI c)) nx' x (fh_kd kd m c x) := by
      intro x hx hxm
      have hxc : x ≠ c := fun z => hcP j hj (z ▸ hx)
      rw [kdn x hxm hxc]
      obtain ⟨k1, k2, k3⟩ := h.2.2.2.2 j hj x hx
      refine ⟨(hfi x hxc hxm).trans k1, fun A z hz => (pk_un hxm).trans (k2 A z hz), fh_ChC k3 (fun z hz => hnx z (fun y => hcP j hj (fh_HpK h hj hx (y ▸ hz))) (fun y => ?_))⟩
      have hj6 := fh_HpX h hj (by omega) (fh_HpK h hj hx hz) (fh_HpK h (j := 6) (by omega) hm y)
      subst hj6
      exact hxm (fh_PreD hpre hN hx hm hz y)
    by_cases e : j = 6
    · subst e
      rw [fh_up_s] at hxj
      have hxj' := p1.mem_iff.mp hxj
      rw [List.mem_cons] at hxj'
      rcases hxj' with hx' | hx'
      · subst hx'
        rw [kdc]
        exact ⟨hfc, fun A y hy => by simp at hy, trivial⟩
      · by_cases hxm : x = m
        · subst hxm
          rw [kdm]
          obtain ⟨k1, k2, k3⟩ := h.2.2.2.2 6 (by omega) x hx'
          have hxN : (kd x).Nodup := fh_PreN hpre hN hx'
          have hck : c ∉ kd x := fun z => hcP 6 (by omega) (fh_HpK h (by omega) hx' z)
          refine ⟨?_, fun A y hy => ?_, ?_⟩
          · rcases hx with ⟨e0, _, e⟩ | ⟨A, y, ey, _, e⟩
            · rw [e, pk_us, e0]; rfl
            · rw [e, pk_un hmc, k1, ey]; exact (fa_hda (by simp)).symm
          · have := (List.append_inj' hy rfl).2
            rw [List.cons_eq_cons] at this
            rw [pk_us, this.1]
          · rcases hx with ⟨e0, e, _⟩ | ⟨A, y, ey, e, _⟩
            · rw [e0, e]; exact ⟨pk_us, trivial⟩
            · rw [ey] at k3 hxN hck ⊢
              rw [e]
              have hyc : y ≠ c := fun z => hck (by rw [z]; simp)
              exact fh_ChA (W := [c]) (fh_ChU k3 hck) hxN ⟨pk_us, trivial⟩ (by simp [hyc])
        · exact key x hx' hxm
    · rw [fh_up_n e] at hxj
      exact key x hxj (fun z => e (fh_HpX h hj (by omega) (z ▸ hxj) hm))
/-- a tree is given back -/
theorem fh_free {j : Nat} {nx' : Nat → Int32} {fr' : Int32} (h : fh_Hp nx fi la fr kd Fl PL rt) (hj : j < 7) (hf : fh_FC nx' ((PL j).reverse ++ Fl) fr') (hn : ∀ x, x ∉ PL j → nx' x = nx x) : fh_Hp nx' fi la fr' kd ((PL j).reverse ++ Fl) (fh_up PL j []) rt := by
  refine ⟨fun y => ?_, ?_, hf, fun i hi => ?_, fun i hi x hx => ?_⟩
  · have h1 := h.1 y
    have h2 := fh_sumU (g := fun j => (PL j).count y) (g' := fun i => (fh_up PL j [] i).count y) (j := j) (n := 7) hj (fun i _ hi => by simp only [fh_up_n hi])
    simp only [fh_up_s, List.count_nil] at h2
    rw [← h1, List.count_append, List.count_reverse]
    omega
  · have h1 := h.2.1
    have h2 := fh_sumU (g := fun j => (PL j).length) (g' := fun i => (fh_up PL j [] i).length) (j := j) (n := 7) hj (fun i _ hi => by simp only [fh_up_n hi])
    simp only [fh_up_s, List.length_nil] at h2
    rw [List.length_append, List.length_reverse]
    omega
  · by_cases e : i = j
    · subst e; rw [fh_up_s]; exact Or.inl rfl
    · rw [fh_up_n e]; exact h.2.2.2.1 i hi
  · by_cases e : i = j
    · subst e; rw [fh_up_s] at hx; exact nomatch hx
    · rw [fh_up_n e] at hx
      obtain ⟨k1, k2, k3⟩ := h.2.2.2.2 i hi x hx
      exact ⟨k1, k2, fh_ChC k3 (fun y hy => hn y (fun z => e (fh_HpX h hi hj (fh_HpK h hi hx hy) z)))⟩
/-- the frame's tree becomes a call's -/
theorem fh_move {p : Nat} (h : fh_Hp nx fi la fr kd Fl PL rt) (hp : p < 6) (h0 : PL p = []) : fh_Hp nx fi la fr kd Fl (fh_up (fh_up PL p (PL 6)) 6 []) (fun i => if i = p then rt 6 else rt i) := by
  have e6 : ∀ i, i ≠ 6 → i ≠ p → fh_up (fh_up PL p (PL 6)) 6 [] i = PL i := fun i h1 h2 => by rw [fh_up_n h1, fh_up_n h2]
  have ep : fh_up (fh_up PL p (PL 6)) 6 [] p = PL 6 := by rw [fh_up_n (by omega), fh_up_s]
  have es : fh_up (fh_up PL p (PL 6)) 6 [] 6 = [] := fh_up_s ..
  refine ⟨fun y => ?_, ?_, h.2.2.1, fun i hi => ?_, fun i hi x hx => ?_⟩
  · have h1 := h.1 y
    have h2 := fh_sumU (g := fun j => (PL j).count y) (g' := fun i => (fh_up PL p (PL 6) i).count y) (j := p) (n := 7) (by omega) (fun i _ hi => by simp only [fh_up_n hi])
    have h3 := fh_sumU (g := fun j => (fh_up PL p (PL 6) j).count y) (g' := fun i => (fh_up (fh_up PL p (PL 6)) 6 [] i).count y) (j := 6) (n := 7) (by omega) (fun i _ hi => by simp only [fh_up_n hi])
    simp only [fh_up_s, fh_up_n (show 6 ≠ p by omega), h0, List.count_nil] at h2 h3
    omega
  · have h1 := h.2.1
    have h2 := fh_sumU (g := fun j => (PL j).length) (g' := fun i => (fh_up PL p (PL 6) i).length) (j := p) (n := 7) (by omega) (fun i _ hi => by simp only [fh_up_n hi])
    have h3 := fh_sumU (g := fun j => (fh_up PL p (PL 6) j).length) (g' := fun i => (fh_up (fh_up PL p (PL 6)) 6 [] i).length) (j := 6) (n := 7) (by omega) (fun i _ hi => by simp only [fh_up_n hi])
    simp only [fh_up_s, fh_up_n (show 6 ≠ p by omega), h0, List.length_nil] at h2 h3
    omega
  · by_cases e : i = 6
    · subst e; rw [es]; exact Or.inl rfl
    · by_cases e2 : i = p
      · subst e2; dsimp only; rw [ep, if_pos rfl]; exact h.2.2.2.1 6 (by omega)
      · dsimp only; rw [e6 i e e2, if_neg e2]; exact h.2.2.2.1 i hi
  · by_cases e : i = 6
    · subst e; rw [es] at hx; exact nomatch hx
    · by_cases e2 : i = p
      · subst e2; rw [ep] at hx; exact h.2.2.2.2 6 (by omega) x hx
      · rw [e6 i e e2] at hx; exact h.2.2.2.2 i hi x hx
end
end
section
/-! a tree of cells and what it holds -/
def fh_CT (fo : Nat → Int32) (va : Nat → Int64) : List Nat → List (Nat × Int64) → Prop
  | [], k => k = []
  | c :: l, k => ∃ p k', k = p :: k' ∧ fo c = nI p.1 ∧ va c = p.2 ∧ fh_CT fo va l k'
theorem fh_CTc {fo fo' : Nat → Int32} {va va' : Nat → Int64} : ∀ {l k}, fh_CT fo va l k → (∀ x, x ∈ l → fo' x = fo x ∧ va' x = va x) → fh_CT fo' va' l k
  | [], _, h, _ => h
  | c :: l, k, ⟨p, k', e, h1, h2, h3⟩, g => by
    have gc := g c List.mem_cons_self
    exact ⟨p, k', e, gc.1.trans h1, gc.2.trans h2, fh_CTc h3 (fun x hx => g x (List.mem_cons_of_mem _ hx))⟩
theorem fh_CTa {fo : Nat → Int32} {va : Nat → Int64} {c f : Nat} {v : Int64} (h1 : fo c = nI f) (h2 : va c = v) : ∀ {l k}, fh_CT fo va l k → fh_CT fo va (l ++ [c]) (k ++ [(f, v)])
  | [], k, h => by
    have h' : k = [] := h
    subst h'
    exact ⟨(f, v), [], rfl, h1, h2, rfl⟩
  | a :: l, k, ⟨p, k', e, a1, a2, a3⟩ => by
    subst e
    exact ⟨p, k' ++ [(f, v)], rfl, a1, a2, fh_CTa h1 h2 a3⟩
theorem fh_CTl {fo : Nat → Int32} {va : Nat → Int64} : ∀ {l k}, fh_CT fo va l k → l.length = k.length
  | [], k, h => by
    have h' : k = [] := h
    subst h'
    rfl
  | a :: l, k, ⟨p, k', e, a1, a2, a3⟩ => by
    subst e
    rw [List.length_cons, List.length_cons, fh_CTl a3]
theorem fh_CTm {fo : Nat → Int32} {va : Nat → Int64} {x : Nat} : ∀ {l k}, fh_CT fo va l k → x ∈ l → ∃ p, p ∈ k ∧ fo x = nI p.1
  | [], _, _, hx => nomatch hx
  | a :: l, k, ⟨p, k', e, a1, a2, a3⟩, hx => by
    subst e
    rw [List.mem_cons] at hx
    rcases hx with hx | hx
    · subst hx; exact ⟨p, List.mem_cons_self, a1⟩
    · obtain ⟨q, q1, q2⟩ := fh_CTm a3 hx
      exact ⟨q, List.mem_cons_of_mem _ q1, q2⟩
/-- where a field's first cell lies -/
theorem fh_CTs {fo : Nat → Int32} {va : Nat → Int64} {f : Nat} (hf : f < 2 ^ 31) : ∀ {l k}, fh_CT fo va l k → (∀ p, p ∈ k → p.1 ≤ 15) →
    (fb_F f k = [] ∧ ∀ x, x ∈ l → fo x ≠ nI f) ∨ (∃ A x D k1 p k2, l = A ++ x :: D ∧ k = k1 ++ p :: k2 ∧ A.length = k1.length ∧ p.1 = f ∧ fo x = nI f ∧ (∀ y, y ∈ A → fo y ≠ nI f) ∧ (∀ y, y ∈ k1 → y.1 ≠ f))
  | [], k, h, _ => by
    have h' : k = [] := h
    subst h'
    exact Or.inl ⟨rfl, fun _ hx => nomatch hx⟩
  | a :: l, k, ⟨p, k', e, a1, a2, a3⟩, hb => by
    subst e
    have hp := hb p List.mem_cons_self
    by_cases hpf : p.1 = f
    · exact Or.inr ⟨[], a, l, [], p, k', rfl, rfl, rfl, hpf, by rw [a1, hpf], (fun _ hy => nomatch hy), (fun _ hy => nomatch hy)⟩
    · have hne : fo a ≠ nI f := by
        rw [a1]
        exact fun z => hpf ((nI_eq (by omega) hf).mp z)
      rcases fh_CTs hf a3 (fun q hq => hb q (List.mem_cons_of_mem _ hq)) with ⟨h1, h2⟩ | ⟨A, x, D, k1, q, k2, e1, e2, e3, e4, e5, e6, e7⟩
      · refine Or.inl ⟨by rw [fb_F_cons, if_neg hpf, h1], fun x hx => ?_⟩
        rw [List.mem_cons] at hx
        rcases hx with hx | hx
        · rw [hx]; exact hne
        · exact h2 x hx
      · subst e1 e2
        refine Or.inr ⟨a :: A, x, D, p :: k1, q, k2, rfl, rfl, by rw [List.length_cons, List.length_cons, e3], e4, e5, fun y hy => ?_, fun y hy => ?_⟩
        · rw [List.mem_cons] at hy
          rcases hy with hy | hy
          · rw [hy]; exact hne
          · exact e6 y hy
        · rw [List.mem_cons] at hy
          rcases hy with hy | hy
          · rw [hy]; exact hpf
          · exact e7 y hy
theorem fb_mkN {f : Nat} : ∀ {k}, fb_F f k = [] → fb_mk k f = k ++ [(f, 0)]
  | [], _ => rfl
  | p :: k, h => by
    rw [fb_F_cons] at h
    by_cases hp : p.1 = f
    · rw [if_pos hp] at h; exact absurd h (List.cons_ne_nil _ _)
    · rw [if_neg hp] at h
      rw [fb_mk, if_neg hp, fb_mkN h]; rfl
theorem fb_mkS {f : Nat} {p : Nat × Int64} {k2 : List (Nat × Int64)} (hp : p.1 = f) : ∀ {k1}, (∀ y, y ∈ k1 → y.1 ≠ f) → fb_mk (k1 ++ p :: k2) f = k1 ++ p :: k2
  | [], _ => by rw [List.nil_append, fb_mk, if_pos hp]
  | a :: k1, h => by rw [List.cons_append, fb_mk, if_neg (h a List.mem_cons_self), fb_mkS hp (fun y hy => h y (List.mem_cons_of_mem _ hy))]
theorem fb_ptS {f : Nat} {v : Int64} {p : Nat × Int64} {k2 : List (Nat × Int64)} (hp : p.1 = f) : ∀ {k1}, (∀ y, y ∈ k1 → y.1 ≠ f) → fb_pt (k1 ++ p :: k2) f v = k1 ++ (f, v) :: k2
  | [], _ => by rw [List.nil_append, fb_pt, if_pos hp]; rfl
  | a :: k1, h => by rw [List.cons_append, fb_pt, if_neg (h a List.mem_cons_self), fb_ptS hp (fun y hy => h y (List.mem_cons_of_mem _ hy))]; rfl
theorem fb_FS {f : Nat} {p : Nat × Int64} {k1 k2 : List (Nat × Int64)} (hp : p.1 = f) : fb_F f (k1 ++ p :: k2) ≠ [] := by
  rw [fb_F_app, fb_F_cons, if_pos hp]; simp
theorem fb_FN {f : Nat} {k : List (Nat × Int64)} (h : ∀ y, y ∈ k → y.1 ≠ f) : fb_F f k = [] := by
  unfold fb_F
  rw [List.filter_eq_nil_iff]
  intro a ha
  simpa using h a ha
theorem fh_CTset {fo : Nat → Int32} {va : Nat → Int64} {x : Nat} {v : Int64} {D : List Nat} {p : Nat × Int64} {k2 : List (Nat × Int64)} : ∀ {A k1}, fh_CT fo va (A ++ x :: D) (k1 ++ p :: k2) → A.length = k1.length → (A ++ x :: D).Nodup → fh_CT fo (vp_updL va x v) (A ++ x :: D) (k1 ++ (p.1, v) :: k2)
  | [], [], h, _, hn => by
    obtain ⟨q, k', e, a1, a2, a3⟩ := h
    rw [List.nil_append, List.cons_eq_cons] at e
    obtain ⟨rfl, rfl⟩ := e
    rw [List.nil_append, List.nodup_cons] at hn
    exact ⟨(p.1, v), k2, rfl, a1, pk_uLs, fh_CTc a3 (fun y hy => ⟨rfl, pk_uLn (fun z => hn.1 (z ▸ hy))⟩)⟩
  | [], _ :: _, _, hl, _ => by simp at hl
  | _ :: _, [], _, hl, _ => by simp at hl
  | a :: A, b :: k1, h, hl, hn => by
    obtain ⟨q, k', e, a1, a2, a3⟩ := h
    rw [List.cons_append, List.cons_eq_cons] at e
    obtain ⟨rfl, rfl⟩ := e
    rw [List.cons_append, List.nodup_cons] at hn
    have hax : a ≠ x := fun z => hn.1 (by rw [z]; simp)
    exact ⟨b, k1 ++ (p.1, v) :: k2, rfl, a1, (pk_uLn hax).trans a2, fh_CTset a3 (by simpa using hl) hn.2⟩
theorem fh_CTu {fo : Nat → Int32} {va : Nat → Int64} {f x y : Nat} (hf : f < 2 ^ 31) : ∀ {l k}, fh_CT fo va l k → (fb_F f k).length ≤ 1 → x ∈ l → y ∈ l → fo x = nI f → fo y = nI f → (∀ p, p ∈ k → p.1 ≤ 15) → x = y
  | [], _, _, _, hx, _, _, _, _ => nomatch hx
  | a :: l, k, ⟨p, k', e, a1, a2, a3⟩, hl, hx, hy, fx, fy, hb => by
    subst e
    have hb' : ∀ q, q ∈ k' → q.1 ≤ 15 := fun q hq => hb q (List.mem_cons_of_mem _ hq)
    rw [fb_F_cons] at hl
    rw [List.mem_cons] at hx hy
    by_cases hp : p.1 = f
    · rw [if_pos hp, List.length_cons] at hl
      have hz : ∀ z, z ∈ l → fo z ≠ nI f := by
        have h0 : fb_F f k' = [] := List.eq_nil_of_length_eq_zero (by omega)
        rcases fh_CTs hf a3 hb' with h | ⟨A, w, D, k1, q, k2, _, e2, _, e4, _⟩
        · exact h.2
        · rw [e2] at h0; exact absurd h0 (fb_FS e4)
      rcases hx with hx | hx
      · rcases hy with hy | hy
        · rw [hx, hy]
        · exact absurd fy (hz y hy)
      · exact absurd fx (hz x hx)
    · rw [if_neg hp] at hl
      have hne : fo a ≠ nI f := by
        rw [a1]
        have := hb p List.mem_cons_self
        exact fun z => hp ((nI_eq (by omega) hf).mp z)
      rcases hx with hx | hx
      · rw [hx] at fx; exact absurd fx hne
      · rcases hy with hy | hy
        · rw [hy] at fy; exact absurd fy hne
        · exact fh_CTu hf a3 hl hx hy fx fy hb'
/-- m is the cell of message q -/
def fh_At (kd : Nat → List Nat) (fo : Nat → Int32) (rt q m : Nat) : Prop :=
  (q = 0 ∧ m = rt) ∨ (1 ≤ q ∧ q ≤ 15 ∧ m ∈ kd rt ∧ fo m = nI q) ∨
  (∃ c f g, q = f * 16 + g ∧ 1 ≤ f ∧ f ≤ 15 ∧ 1 ≤ g ∧ g ≤ 15 ∧ c ∈ kd rt ∧ fo c = nI f ∧ m ∈ kd c ∧ fo m = nI g)
def fh_TC (kd : Nat → List Nat) (fo : Nat → Int32) (va : Nat → Int64) (rt : Nat) (C : fb_Con) : Prop :=
  ∀ q m, fh_At kd fo rt q m → fh_CT fo va (kd m) (C q) ∧ (16 ≤ q → ∀ e, e ∈ kd m → kd e = [])
section
variable {kd : Nat → List Nat} {fo : Nat → Int32} {va : Nat → Int64} {rt : Nat} {C : fb_Con} {P : List Nat}
theorem fh_Pr (hp : fh_Pre kd P [rt]) : rt ∈ P := (fh_PreS hp).subset List.mem_cons_self
theorem fh_AtP (hp : fh_Pre kd P [rt]) {q m : Nat} (h : fh_At kd fo rt q m) : m ∈ P := by
  rcases h with ⟨_, h⟩ | ⟨_, _, h, _⟩ | ⟨c, f, g, _, _, _, _, _, h1, _, h2, _⟩
  · rw [h]; exact fh_Pr hp
  · exact fh_PreK hp (fh_Pr hp) h
  · exact fh_PreK hp (fh_PreK hp (fh_Pr hp) h1) h2
theorem fh_nR (hp : fh_Pre kd P [rt]) (hn : P.Nodup) {x : Nat} (hx : x ∈ P) (h : rt ∈ kd x) : False := fh_PreW hp hn List.mem_cons_self hx h
theorem fh_nK (hp : fh_Pre kd P [rt]) (hn : P.Nodup) {c x : Nat} (hc : c ∈ kd rt) (h1 : x ∈ kd rt) (h2 : x ∈ kd c) : False := by
  have hcP := fh_PreK hp (fh_Pr hp) hc
  have e := fh_PreD hp hn (fh_Pr hp) hcP h1 h2
  subst e
  exact fh_nR hp hn hcP hc
theorem fh_AtI (hp : fh_Pre kd P [rt]) (hn : P.Nodup) {q q' m : Nat} (h : fh_At kd fo rt q m) (h' : fh_At kd fo rt q' m) : q = q' := by
  rcases h with ⟨h0, h⟩ | ⟨a1, a2, a3, a4⟩ | ⟨c, f, g, a0, a1, a2, a3, a4, a5, a6, a7, a8⟩ <;> rcases h' with ⟨h0', h'⟩ | ⟨b1, b2, b3, b4⟩ | ⟨c', f', g', b0, b1, b2, b3, b4, b5, b6, b7, b8⟩
  · omega
  · subst h; exact (fh_nR hp hn (fh_Pr hp) b3).elim
  · subst h; exact (fh_nR hp hn (fh_PreK hp (fh_Pr hp) b5) b7).elim
  · subst h'; exact (fh_nR hp hn (fh_Pr hp) a3).elim
  · rw [a4] at b4; exact (nI_eq (by omega) (by omega)).mp b4
  · exact (fh_nK hp hn b5 a3 b7).elim
  · subst h'; exact (fh_nR hp hn (fh_PreK hp (fh_Pr hp) a5) a7).elim
  · exact (fh_nK hp hn a5 b3 a7).elim
  · have e := fh_PreD hp hn (fh_PreK hp (fh_Pr hp) a5) (fh_PreK hp (fh_Pr hp) b5) a7 b7
    subst e
    rw [a6] at b6
    rw [a8] at b8
    have e1 := (nI_eq (by omega) (by omega)).mp b6
    have e2 := (nI_eq (by omega) (by omega)).mp b8
    omega
theorem fh_TCb (hC : ∀ q p, p ∈ C q → 1 ≤ p.1 ∧ p.1 ≤ 15) (q : Nat) : ∀ p, p ∈ C q → p.1 ≤ 15 := fun p hp => (hC q p hp).2
/-- one cell alone for a message -/
theorem fh_AtU (hp : fh_Pre kd P [rt]) (hn : P.Nodup) (ht : fh_TC kd fo va rt C) (hC : ∀ q p, p ∈ C q → 1 ≤ p.1 ∧ p.1 ≤ 15) {q m x : Nat}
    (hq : (1 ≤ q → q ≤ 15 → (fb_F q (C 0)).length ≤ 1) ∧ (16 ≤ q → (fb_F (q / 16) (C 0)).length ≤ 1 ∧ (fb_F (q % 16) (C (q / 16))).length ≤ 1))
    (h : fh_At kd fo rt q m) (h' : fh_At kd fo rt q x) : x = m := by
  have h0 := (ht 0 rt (Or.inl ⟨rfl, rfl⟩)).1
  rcases h with ⟨h0, h⟩ | ⟨a1, a2, a3, a4⟩ | ⟨c, f, g, a0, a1, a2, a3, a4, a5, a6, a7, a8⟩ <;> rcases h' with ⟨h0', h'⟩ | ⟨b1, b2, b3, b4⟩ | ⟨c', f', g', b0, b1, b2, b3, b4, b5, b6, b7, b8⟩
  · rw [h, h']
  · omega
  · omega
  · omega
  · exact fh_CTu (by omega) h0 (hq.1 a1 a2) b3 a3 b4 a4 (fh_TCb hC 0)
  · omega
  · omega
  · omega
  · have e1 : f' = f := by omega
    have e2 : g' = g := by omega
    subst e1 e2
    have e3 : q / 16 = f' := by omega
    have e4 : q % 16 = g' := by omega
    have hq2 := hq.2 (by omega)
    rw [e3, e4] at hq2
    have ec := fh_CTu (by omega) h0 hq2.1 b5 a5 b6 a6 (fh_TCb hC 0)
    subst ec
    exact fh_CTu (by omega) (ht f' c' (Or.inr (Or.inl ⟨b1, b2, b5, b6⟩))).1 hq2.2 b7 a7 b8 a8 (fh_TCb hC f')
theorem fh_TCc {kd' : Nat → List Nat} {fo' : Nat → Int32} {va' : Nat → Int64} (hp : fh_Pre kd P [rt]) (ht : fh_TC kd fo va rt C) (g : ∀ x, x ∈ P → kd' x = kd x ∧ fo' x = fo x ∧ va' x = va x) : fh_TC kd' fo' va' rt C := by
  intro q m h
  have hr := fh_Pr hp
  have hA : fh_At kd fo rt q m := by
    rcases h with h | ⟨a1, a2, a3, a4⟩ | ⟨c, f, g', a0, a1, a2, a3, a4, a5, a6, a7, a8⟩
    · exact Or.inl h
    · rw [(g rt hr).1] at a3
      rw [(g m (fh_PreK hp hr a3)).2.1] at a4
      exact Or.inr (Or.inl ⟨a1, a2, a3, a4⟩)
    · rw [(g rt hr).1] at a5
      have hc := fh_PreK hp hr a5
      rw [(g c hc).2.1] at a6
      rw [(g c hc).1] at a7
      rw [(g m (fh_PreK hp hc a7)).2.1] at a8
      exact Or.inr (Or.inr ⟨c, f, g', a0, a1, a2, a3, a4, a5, a6, a7, a8⟩)
  have hm := fh_AtP hp hA
  obtain ⟨t1, t2⟩ := ht q m hA
  rw [(g m hm).1]
  exact ⟨fh_CTc t1 (fun x hx => (g x (fh_PreK hp hm hx)).2), fun h16 e he => (g e (fh_PreK hp hm he)).1.trans (t2 h16 e he)⟩
theorem fh_TCset {q m x : Nat} {v : Int64} {A D : List Nat} {k1 k2 : List (Nat × Int64)} {p : Nat × Int64} (hp : fh_Pre kd P [rt]) (hn : P.Nodup) (ht : fh_TC kd fo va rt C) (hm : fh_At kd fo rt q m) (hu : ∀ x, fh_At kd fo rt q x → x = m)
    (e1 : kd m = A ++ x :: D) (e2 : C q = k1 ++ p :: k2) (e3 : A.length = k1.length) : fh_TC kd fo (vp_updL va x v) rt (fb_up C q (k1 ++ (p.1, v) :: k2)) := by
  intro q' m' h
  have hmP := fh_AtP hp hm
  have hmP' := fh_AtP hp h
  obtain ⟨t1, t2⟩ := ht q' m' h
  refine ⟨?_, t2⟩
  by_cases e : q' = q
  · subst e
    have em := hu m' h
    subst em
    rw [fb_up_s, e1]
    rw [e1, e2] at t1
    refine fh_CTset t1 e3 ?_
    rw [← e1]; exact fh_PreN hp hn hmP'
  · rw [fb_up_n e]
    refine fh_CTc t1 (fun y hy => ⟨rfl, pk_uLn (fun z => ?_)⟩)
    subst z
    have em := fh_PreD hp hn hmP' hmP hy (by rw [e1]; simp)
    subst em
    exact e (fh_AtI hp hn h hm)
theorem fh_TCapp {q m c f : Nat} {v : Int64} (hp : fh_Pre kd P [rt]) (hn : P.Nodup) (ht : fh_TC kd fo va rt C) (hm : fh_At kd fo rt q m) (hu : ∀ x, fh_At kd fo rt q x → x = m) (hc : c ∉ P) (h1 : 1 ≤ f) (h2 : f ≤ 15) (h0 : q < 16 → C (q * 16 + f) = []) :
    fh_TC (fh_kd kd m c) (upd fo c (nI f)) (vp_updL va c v) rt (fb_up C q (C q ++ [(f, v)])) := by
  have hr := fh_Pr hp
  have hmP := fh_AtP hp hm
  have hmc : m ≠ c := fun z => hc (z ▸ hmP)
  have hrc : rt ≠ c := fun z => hc (z ▸ hr)
  have kdc : fh_kd kd m c c = [] := by unfold fh_kd; rw [if_neg (Ne.symm hmc), if_pos rfl]
  have kdm : fh_kd kd m c m = kd m ++ [c] := if_pos rfl
  have kdn : ∀ x, x ≠ m → x ≠ c → fh_kd kd m c x = kd x := fun x h1 h2 => by unfold fh_kd; rw [if_neg h1, if_neg h2]
  have kin : ∀ {x y}, x ∈ P → y ∈ fh_kd kd m c x → y ∈ kd x ∨ (y = c ∧ x = m) := by
    intro x y hx hy
    by_cases e : x = m
    · subst e
      rw [kdm, List.mem_append, List.mem_singleton] at hy
      exact hy.imp id (fun z => ⟨z, rfl⟩)
    · rw [kdn x e (fun z => hc (z ▸ hx))] at hy
      exact Or.inl hy
  have fon : ∀ x, x ∈ P → upd fo c (nI f) x = fo x := fun x hx => pk_un (fun z => hc (z ▸ hx))
  have cl : ∀ q' x, fh_At (fh_kd kd m c) (upd fo c (nI f)) rt q' x → (x ∈ P ∧ fh_At kd fo rt q' x) ∨ (x = c ∧ q' = q * 16 + f ∧ q < 16) := by
    intro q' x h
    rcases h with ⟨h, h'⟩ | ⟨a1, a2, a3, a4⟩ | ⟨c', f', g', a0, a1, a2, a3, a4, a5, a6, a7, a8⟩
    · rw [h']; exact Or.inl ⟨hr, Or.inl ⟨h, rfl⟩⟩
    · rcases kin hr a3 with hx | ⟨hx, hxm⟩
      · have hxP := fh_PreK hp hr hx
        rw [fon x hxP] at a4
        exact Or.inl ⟨hxP, Or.inr (Or.inl ⟨a1, a2, hx, a4⟩)⟩
      · subst hx hxm
        rw [pk_us] at a4
        have e1 := (nI_eq (by omega) (by omega)).mp a4
        have e2 := fh_AtI hp hn hm (Or.inl ⟨rfl, rfl⟩)
        exact Or.inr ⟨rfl, by omega, by omega⟩
    · rcases kin hr a5 with hx | ⟨hx, hxm⟩
      · have hcP := fh_PreK hp hr hx
        rw [fon c' hcP] at a6
        rcases kin hcP a7 with hy | ⟨hy, hym⟩
        · have hxP := fh_PreK hp hcP hy
          rw [fon x hxP] at a8
          exact Or.inl ⟨hxP, Or.inr (Or.inr ⟨c', f', g', a0, a1, a2, a3, a4, hx, a6, hy, a8⟩)⟩
        · subst hy hym
          rw [pk_us] at a8
          have e1 := (nI_eq (by omega) (by omega)).mp a8
          have e2 := fh_AtI hp hn hm (Or.inr (Or.inl ⟨a1, a2, hx, a6⟩))
          exact Or.inr ⟨rfl, by omega, by omega⟩
      · subst hx
        rw [kdc] at a7; exact nomatch a7
  intro q' x h
  rcases cl q' x h with ⟨hxP, hA⟩ | ⟨e1, e2, e3⟩
  · obtain ⟨t1, t2⟩ := ht q' x hA
    have hxc : x ≠ c := fun z => hc (z ▸ hxP)
    have cg : ∀ y, y ∈ kd x → upd fo c (nI f) y = fo y ∧ vp_updL va c v y = va y := fun y hy => by
      have hyc : y ≠ c := fun z => hc (z ▸ fh_PreK hp hxP hy)
      exact ⟨pk_un hyc, pk_uLn hyc⟩
    by_cases e : x = m
    · subst e
      have eq := fh_AtI hp hn hA hm
      subst eq
      rw [kdm, fb_up_s]
      refine ⟨fh_CTa pk_us pk_uLs (fh_CTc t1 cg), fun h16 y hy => ?_⟩
      rw [List.mem_append, List.mem_singleton] at hy
      rcases hy with hy | hy
      · have hyP := fh_PreK hp hxP hy
        have hyx : y ≠ x := fun z => by
          subst z
          rcases hA with ⟨a0, _⟩ | ⟨_, a2, _⟩ | ⟨c', f', g', a0, a1, a2, a3, a4, a5, a6, a7, a8⟩
          · omega
          · omega
          · have ec := fh_PreD hp hn hxP (fh_PreK hp hr a5) hy a7
            subst ec
            exact fh_nK hp hn a5 a5 a7
        rw [kdn y hyx (fun z => hc (z ▸ hyP))]
        exact t2 h16 y hy
      · rw [hy]; exact kdc
    · rw [kdn x e hxc]
      have eq : q' ≠ q := fun z => e (hu x (z ▸ hA))
      rw [fb_up_n eq]
      refine ⟨fh_CTc t1 cg, fun h16 y hy => ?_⟩
      have hyP := fh_PreK hp hxP hy
      have hym : y ≠ m := by
        intro z
        subst z
        rcases hA with ⟨a0, _⟩ | ⟨_, a2, _⟩ | ⟨c', f', g', a0, a1, a2, a3, a4, a5, a6, a7, a8⟩
        · omega
        · omega
        · have hcP := fh_PreK hp hr a5
          rcases hm with ⟨_, b⟩ | ⟨_, _, b, _⟩ | ⟨c2, f2, g2, _, _, _, _, _, b5, _, b7, _⟩
          · subst b; exact fh_nR hp hn hxP hy
          · have ec := fh_PreD hp hn hr hxP b hy
            subst ec
            exact fh_nR hp hn hcP a7
          · have ec := fh_PreD hp hn (fh_PreK hp hr b5) hxP b7 hy
            subst ec
            exact fh_nK hp hn a5 b5 a7
      rw [kdn y hym (fun z => hc (z ▸ hyP))]
      exact t2 h16 y hy
  · subst e1 e2
    rw [kdc, fb_up_n (by omega), h0 e3]
    exact ⟨rfl, fun _ _ hy => nomatch hy⟩
theorem fh_TC0 {c : Nat} (hk : kd c = []) : fh_TC kd fo va c (fun _ => []) := by
  intro q m h
  rcases h with ⟨_, h⟩ | ⟨_, _, h, _⟩ | ⟨c', f, g, _, _, _, _, _, h, _⟩
  · subst h; rw [hk]; exact ⟨rfl, fun _ _ hy => nomatch hy⟩
  · rw [hk] at h; exact nomatch h
  · rw [hk] at h; exact nomatch h
end
end
section
/-! the component's walks over cells -/
def fh_sk (fo : Nat → Int32) (num : Int32) : List Nat → List Nat
  | [] => []
  | x :: l => if fo x = num then x :: l else fh_sk fo num l
section
variable {f_begun f_opened f_waiting f_time f_completions f_dropped f_free f_state f_taken f_fault f_frameCall f_at f_level f_packEnd f_shift f_need f_entry f_number : Int32} {f_acc : Int64} {a_schema a_callId a_callState a_deadline a_callRoot a_placeOf a_wheel a_wheelEnd a_later a_sooner a_done a_next a_first a_last a_fieldOf : Nat → Int32} {a_val : Nat → Int64} {a_endAt a_typeOf a_cellOf : Nat → Int32}
theorem fx_cell {post : Int32 → SX → Prop} {c f : Nat} (hc : c < 427) (hf : f < 128) (K : post (nI c) (f_begun, f_opened, f_waiting, f_time, f_completions, f_dropped, a_next c, f_state, f_taken, f_fault, f_frameCall, f_at, f_level, f_packEnd, f_shift, f_need, f_entry, f_number, f_acc, a_schema, a_callId, a_callState, a_deadline, a_callRoot, a_placeOf, a_wheel, a_wheelEnd, a_later, a_sooner, a_done, upd a_next c (-1), upd a_first c (-1), a_last, upd a_fieldOf c (nI f), vp_updL a_val c 0, a_endAt, a_typeOf, a_cellOf)) : wpX_cell post (f_begun, f_opened, f_waiting, f_time, f_completions, f_dropped, nI c, f_state, f_taken, f_fault, f_frameCall, f_at, f_level, f_packEnd, f_shift, f_need, f_entry, f_number, f_acc, a_schema, a_callId, a_callState, a_deadline, a_callRoot, a_placeOf, a_wheel, a_wheelEnd, a_later, a_sooner, a_done, a_next, a_first, a_last, a_fieldOf, a_val, a_endAt, a_typeOf, a_cellOf) (nI f) := by
  have i : vp_in (nI c) 427 := vp_in_nI hc (by decide)
  have e : (nI c).toNatClampNeg = c := nI_clamp (by omega)
  have e1 : a_next (nI c).toNatClampNeg = a_next c := by rw [e]
  have e2 : upd a_next (nI c).toNatClampNeg (vp_nar .short (-1)) = upd a_next c (-1) := by rw [e, fa_ms]
  have e3 : upd a_first (nI c).toNatClampNeg (vp_nar .short (-1)) = upd a_first c (-1) := by rw [e, fa_ms]
  have e4 : upd a_fieldOf (nI c).toNatClampNeg (vp_nar .byte (nI f).toInt8.toInt32) = upd a_fieldOf c (nI f) := by rw [e, fa_nb hf]
  have e5 : vp_updL a_val (nI c).toNatClampNeg 0 = vp_updL a_val c 0 := by rw [e]
  exact And.intro i (nm_r e1 (And.intro i (nm_r e2 (And.intro i (nm_r e3 (And.intro i (nm_r e4 (And.intro i (nm_r e5 K)))))))))
theorem fx_app2 {post : SX → Prop} {c m : Nat} {l : List Nat} (hc : c < 427) (hm : m < 427) (hmc : m ≠ c) (hk : fh_Kd a_first a_last a_next m l) (hl : ∀ x, x ∈ l → x < 427)
    (K : ∀ nx' fi', (l = [] ∧ nx' = upd a_next c (-1) ∧ fi' = upd (upd a_first c (-1)) m (nI c)) ∨ (∃ A y, l = A ++ [y] ∧ nx' = upd (upd a_next c (-1)) y (nI c) ∧ fi' = upd a_first c (-1)) → post (f_begun, f_opened, f_waiting, f_time, f_completions, f_dropped, f_free, f_state, f_taken, f_fault, f_frameCall, f_at, f_level, f_packEnd, f_shift, f_need, f_entry, f_number, f_acc, a_schema, a_callId, a_callState, a_deadline, a_callRoot, a_placeOf, a_wheel, a_wheelEnd, a_later, a_sooner, a_done, nx', fi', upd a_last m (nI c), a_fieldOf, a_val, a_endAt, a_typeOf, a_cellOf)) :
    wpX_append post (f_begun, f_opened, f_waiting, f_time, f_completions, f_dropped, f_free, f_state, f_taken, f_fault, f_frameCall, f_at, f_level, f_packEnd, f_shift, f_need, f_entry, f_number, f_acc, a_schema, a_callId, a_callState, a_deadline, a_callRoot, a_placeOf, a_wheel, a_wheelEnd, a_later, a_sooner, a_done, upd a_next c (-1), upd a_first c (-1), a_last, a_fieldOf, a_val, a_endAt, a_typeOf, a_cellOf) (nI m) (nI c) := by
  have i : vp_in (nI m) 427 := vp_in_nI hm (by decide)
  have e : (nI m).toNatClampNeg = m := nI_clamp (by omega)
  have ec : vp_nar .short (nI c).toInt16.toInt32 = nI c := fa_ns (by omega)
  have ef : upd a_first c (-1) (nI m).toNatClampNeg = fa_hd l := by rw [e, pk_un hmc]; exact hk.1
  have el : upd a_last (nI m).toNatClampNeg (vp_nar .short (nI c).toInt16.toInt32) = upd a_last m (nI c) := by rw [e, ec]
  refine And.intro i ?_
  rcases List.eq_nil_or_concat l with h0 | ⟨A, y, h0⟩
  · refine br_f ?_ (And.intro i (nm_r (e' := upd (upd a_first c (-1)) m (nI c)) ?_ (And.intro i (nm_r el (K _ _ (Or.inl ⟨h0, rfl, rfl⟩))))))
    · rw [ef, h0]; decide
    · rw [e, ec]
  · rw [List.concat_eq_append] at h0
    have hy : y < 427 := hl y (by rw [h0]; simp)
    have ey : a_last (nI m).toNatClampNeg = nI y := by rw [e]; exact hk.2.1 A y h0
    refine br_t ?_ (And.intro i (And.intro ?_ (nm_r (e' := upd (upd a_next c (-1)) y (nI c)) ?_ (And.intro i (nm_r el (K _ _ (Or.inr ⟨A, y, h0, rfl, rfl⟩)))))))
    · rw [ef]
      match l, hl, h0 with
      | [], _, h0 => simp at h0
      | x :: r, hl, _ => have := hl x List.mem_cons_self; exact nI_pos' (by omega)
    · rw [ey]; exact vp_in_nI hy (by decide)
    · rw [ey, nI_clamp (by omega), ec]
theorem fx_seekL {post : Int32 → Prop} {num : Int32} : ∀ {l : List Nat}, fh_Ch a_next l → (∀ x, x ∈ l → x < 427) → post (fa_hd (fh_sk a_fieldOf num l)) → wX_seek_2 post num f_begun f_opened f_waiting f_time f_completions f_dropped f_free f_state f_taken f_fault f_frameCall f_at f_level f_packEnd f_shift f_need f_entry f_number f_acc a_schema a_callId a_callState a_deadline a_callRoot a_placeOf a_wheel a_wheelEnd a_later a_sooner a_done a_next a_first a_last a_fieldOf a_val a_endAt a_typeOf a_cellOf (l.length + 1) (fa_hd l)
  | [], _, _, K => br_t fa_m1l K
  | x :: l, hc, hb, K => by
    have hx : x < 427 := hb x List.mem_cons_self
    have i : vp_in (nI x) 427 := vp_in_nI hx (by decide)
    have e : (nI x).toNatClampNeg = x := nI_clamp (by omega)
    rw [show fa_hd (x :: l) = nI x from rfl]
    refine br_f (nI_pos (by omega)) (And.intro i ?_)
    rw [e]
    by_cases h : a_fieldOf x = num
    · refine br_t h ?_
      rw [fh_sk, if_pos h] at K
      exact K
    · refine br_f h (And.intro i (nm_r (e' := fa_hd l) ?_ (fx_seekL hc.2 (fun y hy => hb y (List.mem_cons_of_mem _ hy)) ?_)))
      · exact hc.1
      · rw [fh_sk, if_neg h] at K
        exact K
theorem fx_seek {post : Int32 → Prop} {num : Int32} {l : List Nat} (hc : fh_Ch a_next l) (hb : ∀ x, x ∈ l → x < 427) (K : post (fa_hd (fh_sk a_fieldOf num l))) : wpX_seek post (f_begun, f_opened, f_waiting, f_time, f_completions, f_dropped, f_free, f_state, f_taken, f_fault, f_frameCall, f_at, f_level, f_packEnd, f_shift, f_need, f_entry, f_number, f_acc, a_schema, a_callId, a_callState, a_deadline, a_callRoot, a_placeOf, a_wheel, a_wheelEnd, a_later, a_sooner, a_done, a_next, a_first, a_last, a_fieldOf, a_val, a_endAt, a_typeOf, a_cellOf) (fa_hd l) num :=
  ⟨l.length + 1, fx_seekL hc hb K⟩
theorem fx_dropL {post : SX → Prop} {kd : Nat → List Nat} : ∀ {P W Fl : List Nat} {nx : Nat → Int32} {fr : Int32}, fh_Pre kd P W → P.Nodup → (∀ x, x ∈ P → x < 427) → (∀ x, x ∈ Fl → x < 427) → (∀ x, x ∈ P → x ∉ Fl) → fh_Ch nx W → fh_FC nx Fl fr → (∀ x, x ∈ P → fh_Kd a_first a_last nx x (kd x)) →
    (∀ nx' fr', fh_FC nx' (P.reverse ++ Fl) fr' → (∀ x, x ∉ P → nx' x = nx x) → post (f_begun, f_opened, f_waiting, f_time, f_completions, f_dropped, fr', f_state, f_taken, f_fault, f_frameCall, f_at, f_level, f_packEnd, f_shift, f_need, f_entry, f_number, f_acc, a_schema, a_callId, a_callState, a_deadline, a_callRoot, a_placeOf, a_wheel, a_wheelEnd, a_later, a_sooner, a_done, nx', a_first, a_last, a_fieldOf, a_val, a_endAt, a_typeOf, a_cellOf)) →
    wX_drop_13 post f_begun f_opened f_waiting f_time f_completions f_dropped f_state f_taken f_fault f_frameCall f_at f_level f_packEnd f_shift f_need f_entry f_number f_acc (P.length + 1) (fa_hd W) fr a_schema a_callId a_callState a_deadline a_callRoot a_placeOf a_wheel a_wheelEnd a_later a_sooner a_done nx a_first a_last a_fieldOf a_val a_endAt a_typeOf a_cellOf
  | [], W, Fl, nx, fr, hp, _, _, _, _, _, hf, _, K => by
    have hw : W = [] := hp
    subst hw
    exact br_t fa_m1l (K nx fr hf (fun _ _ => rfl))
  | c :: P, W, Fl, nx, fr, ⟨W', e, hp⟩, hn, hb, hbF, hd, hc, hf, hk, K => by
    subst e
    rw [List.nodup_cons] at hn
    have hs := fh_PreS hp
    have hcb : c < 427 := hb c List.mem_cons_self
    have i : vp_in (nI c) 427 := vp_in_nI hcb (by decide)
    have ec : (nI c).toNatClampNeg = c := nI_clamp (by omega)
    obtain ⟨k, hk0, hk1⟩ := fh_FCn hf hbF
    have efr : vp_nar .short fr.toInt16.toInt32 = fr := by rw [hk1]; exact fa_ns (by omega)
    obtain ⟨k1, k2, k3⟩ := hk c List.mem_cons_self
    have hcW : c ∉ W' := fun z => hn.1 (hs.subset (List.mem_append_right _ z))
    have hcK : c ∉ kd c := fun z => hn.1 (hs.subset (List.mem_append_left _ z))
    have hWb : ∀ x, x ∈ W' → x < 512 := fun x hx => by
      have := hb x (List.mem_cons_of_mem _ (hs.subset (List.mem_append_right _ hx)))
      omega
    have hcF : c ∉ Fl := hd c List.mem_cons_self
    rw [show fa_hd (c :: W') = nI c from rfl]
    refine br_f (nI_pos (by omega)) (And.intro i (nm_r (e' := fa_hd W') (by rw [ec]; exact hc.1) (And.intro i ?_)))
    rcases List.eq_nil_or_concat (kd c) with h0 | ⟨A, y, h0⟩
    · refine br_t ?_ (And.intro i (nm_r (e' := upd nx c fr) (by rw [ec, efr]) ?_))
      · rw [ec, k1, h0]; exact fa_m1l
      · rw [h0, List.nil_append] at hp
        refine fx_dropL (kd := kd) (Fl := c :: Fl) hp hn.2 (fun x hx => hb x (List.mem_cons_of_mem _ hx)) (fun x hx => ?_) (fun x hx hx2 => ?_) (fh_ChU hc.2 hcW) ⟨rfl, ?_⟩ (fun x hx => ?_) (fun nx' fr' g1 g2 => K nx' fr' ?_ (fun x hx => ?_))
        · rw [List.mem_cons] at hx
          rcases hx with hx | hx
          · rw [hx]; exact hcb
          · exact hbF x hx
        · rw [List.mem_cons] at hx2
          rcases hx2 with hx2 | hx2
          · exact hn.1 (hx2 ▸ hx)
          · exact hd x (List.mem_cons_of_mem _ hx) hx2
        · rw [pk_us]; exact fh_FCC hf (fun x hx => pk_un (fun z => hcF (z ▸ hx)))
        · obtain ⟨q1, q2, q3⟩ := hk x (List.mem_cons_of_mem _ hx)
          exact ⟨q1, q2, fh_ChU q3 (fun z => hn.1 (fh_PreK hp hx z))⟩
        · rw [List.reverse_cons, List.append_assoc]; exact g1
        · rw [g2 x (fun z => hx (List.mem_cons_of_mem _ z)), pk_un (fun z => hx (by rw [z]; exact List.mem_cons_self))]
    · rw [List.concat_eq_append] at h0
      have hyK : y ∈ kd c := by rw [h0]; simp
      have hyP : y ∈ P := hs.subset (List.mem_append_left _ hyK)
      have hyb : y < 427 := hb y (List.mem_cons_of_mem _ hyP)
      have hyc : y ≠ c := fun z => hcK (z ▸ hyK)
      have ey : a_last (nI c).toNatClampNeg = nI y := by rw [ec]; exact k2 A y h0
      have hKW := hs.nodup hn.2
      rw [List.nodup_append] at hKW
      have hyW : y ∉ W' := fun z => hKW.2.2 _ hyK _ z rfl
      have hdk : ∀ x, x ∈ P → y ∉ kd x := fun x hx z => fh_PreW hp hn.2 (List.mem_append_left _ hyK) hx z
      have hyF : y ∉ Fl := hd y (List.mem_cons_of_mem _ hyP)
      have hfi : ¬ a_first (nI c).toNatClampNeg < 0 := by
        rw [ec, k1]
        match hkc : kd c with
        | [] => rw [hkc] at hyK; exact nomatch hyK
        | x :: r =>
          have := hb x (List.mem_cons_of_mem _ (hs.subset (List.mem_append_left _ (by rw [hkc]; exact List.mem_cons_self))))
          exact nI_pos (by omega)
      refine br_f hfi (And.intro i (And.intro ?_ (nm_r (e' := upd nx y (fa_hd W')) ?_ (And.intro i (nm_r (e' := fa_hd (kd c ++ W')) ?_ (And.intro i (nm_r (e' := upd (upd nx y (fa_hd W')) c fr) (by rw [ec, efr]) ?_)))))))
      · rw [ey]; exact vp_in_nI hyb (by decide)
      · rw [ey, nI_clamp (by omega), fa_hdn hWb]
      · rw [ec, k1]; exact (fa_hda (by rw [h0]; simp)).symm
      · have hch : fh_Ch (upd nx y (fa_hd W')) (kd c ++ W') := by
          rw [h0]
          rw [h0] at k3 hKW
          exact fh_ChA k3 hKW.1 hc.2 hyW
        refine fx_dropL (kd := kd) (Fl := c :: Fl) hp hn.2 (fun x hx => hb x (List.mem_cons_of_mem _ hx)) (fun x hx => ?_) (fun x hx hx2 => ?_) (fh_ChU hch ?_) ⟨rfl, ?_⟩ (fun x hx => ?_) (fun nx' fr' g1 g2 => K nx' fr' ?_ (fun x hx => ?_))
        · rw [List.mem_cons] at hx
          rcases hx with hx | hx
          · rw [hx]; exact hcb
          · exact hbF x hx
        · rw [List.mem_cons] at hx2
          rcases hx2 with hx2 | hx2
          · exact hn.1 (hx2 ▸ hx)
          · exact hd x (List.mem_cons_of_mem _ hx) hx2
        · rw [List.mem_append]; exact fun z => z.elim hcK hcW
        · rw [pk_us]; exact fh_FCC hf (fun x hx => (pk_un (fun z : x = c => hcF (z ▸ hx))).trans (pk_un (fun z : x = y => hyF (z ▸ hx))))
        · obtain ⟨q1, q2, q3⟩ := hk x (List.mem_cons_of_mem _ hx)
          exact ⟨q1, q2, fh_ChU (fh_ChU q3 (hdk x hx)) (fun z => hn.1 (fh_PreK hp hx z))⟩
        · rw [List.reverse_cons, List.append_assoc]; exact g1
        · have hxy : x ≠ y := fun z => hx (List.mem_cons_of_mem _ (z ▸ hyP))
          rw [g2 x (fun z => hx (List.mem_cons_of_mem _ z)), pk_un (fun z => hx (by rw [z]; exact List.mem_cons_self)), pk_un hxy]
theorem fx_drop0 {post : SX → Prop} (K : post (f_begun, f_opened, f_waiting, f_time, f_completions, f_dropped, f_free, f_state, f_taken, f_fault, f_frameCall, f_at, f_level, f_packEnd, f_shift, f_need, f_entry, f_number, f_acc, a_schema, a_callId, a_callState, a_deadline, a_callRoot, a_placeOf, a_wheel, a_wheelEnd, a_later, a_sooner, a_done, a_next, a_first, a_last, a_fieldOf, a_val, a_endAt, a_typeOf, a_cellOf)) : wpX_drop post (f_begun, f_opened, f_waiting, f_time, f_completions, f_dropped, f_free, f_state, f_taken, f_fault, f_frameCall, f_at, f_level, f_packEnd, f_shift, f_need, f_entry, f_number, f_acc, a_schema, a_callId, a_callState, a_deadline, a_callRoot, a_placeOf, a_wheel, a_wheelEnd, a_later, a_sooner, a_done, a_next, a_first, a_last, a_fieldOf, a_val, a_endAt, a_typeOf, a_cellOf) (-1) :=
  br_t fa_m1l ⟨1, br_t fa_m1l K⟩
theorem fx_drop {post : SX → Prop} {kd : Nat → List Nat} {Fl : List Nat} {PL : Nat → List Nat} {rt : Nat → Nat} {j : Nat} (h : fh_Hp a_next a_first a_last f_free kd Fl PL rt) (hj : j < 7) (hp : PL j ≠ [])
    (K : ∀ nx' fr', fh_Hp nx' a_first a_last fr' kd ((PL j).reverse ++ Fl) (fh_up PL j []) rt → post (f_begun, f_opened, f_waiting, f_time, f_completions, f_dropped, fr', f_state, f_taken, f_fault, f_frameCall, f_at, f_level, f_packEnd, f_shift, f_need, f_entry, f_number, f_acc, a_schema, a_callId, a_callState, a_deadline, a_callRoot, a_placeOf, a_wheel, a_wheelEnd, a_later, a_sooner, a_done, nx', a_first, a_last, a_fieldOf, a_val, a_endAt, a_typeOf, a_cellOf)) : wpX_drop post (f_begun, f_opened, f_waiting, f_time, f_completions, f_dropped, f_free, f_state, f_taken, f_fault, f_frameCall, f_at, f_level, f_packEnd, f_shift, f_need, f_entry, f_number, f_acc, a_schema, a_callId, a_callState, a_deadline, a_callRoot, a_placeOf, a_wheel, a_wheelEnd, a_later, a_sooner, a_done, a_next, a_first, a_last, a_fieldOf, a_val, a_endAt, a_typeOf, a_cellOf) (nI (rt j)) := by
  have hpre : fh_Pre kd (PL j) [rt j] := (h.2.2.2.1 j hj).resolve_left hp
  have hr := fh_Pr hpre
  have hrb := fh_HpL h hj hr
  have hn := fh_HpN h hj
  have i : vp_in (nI (rt j)) 427 := vp_in_nI hrb (by decide)
  have ec : (nI (rt j)).toNatClampNeg = rt j := nI_clamp (by omega)
  refine br_f (nI_pos (by omega)) (And.intro i (nm_r (e' := upd a_next (rt j) (-1)) (by rw [ec, fa_ms]) ⟨(PL j).length + 1, ?_⟩))
  refine fx_dropL (W := [rt j]) hpre hn (fun x hx => fh_HpL h hj hx) (fun x hx => fh_HpF h hx) (fun x hx => fh_HpY h hj hx) ⟨pk_us, trivial⟩ (fh_FCC h.2.2.1 (fun x hx => pk_un (fun z => fh_HpY h hj hr (z ▸ hx)))) (fun x hx => ?_) (fun nx' fr' g1 g2 => K nx' fr' (fh_free h hj g1 (fun x hx => ?_)))
  · obtain ⟨q1, q2, q3⟩ := h.2.2.2.2 j hj x hx
    exact ⟨q1, q2, fh_ChU q3 (fun z => fh_nR hpre hn hx z)⟩
  · rw [g2 x hx, pk_un (fun z => hx (by rw [z]; exact hr))]
end
end
section
/-! the pool with what its trees hold -/
def fh_cc (CC : Nat → fb_Con) (C : fb_Con) : Nat → fb_Con := fun j => if j = 6 then C else CC j
theorem fh_cc6 (CC : Nat → fb_Con) (C : fb_Con) : fh_cc CC C 6 = C := if_pos rfl
theorem fh_ccn {CC : Nat → fb_Con} {C : fb_Con} {j : Nat} (h : j ≠ 6) : fh_cc CC C j = CC j := if_neg h
theorem fh_ccE (CC : Nat → fb_Con) : fh_cc CC (CC 6) = CC := by
  funext j
  unfold fh_cc
  split
  · rename_i h; rw [h]
  · rfl
theorem fh_cc2 (CC : Nat → fb_Con) (C C' : fb_Con) : fh_cc (fh_cc CC C) C' = fh_cc CC C' := by
  funext j
  unfold fh_cc
  split <;> rfl
theorem fb_up2 (C : fb_Con) (q : Nat) (l l' : List (Nat × Int64)) : fb_up (fb_up C q l) q l' = fb_up C q l' := by
  funext z
  unfold fb_up
  split <;> rfl
theorem fb_upE (C : fb_Con) (q : Nat) : fb_up C q (C q) = C := by
  funext z
  unfold fb_up
  split
  · rename_i h; rw [h]
  · rfl
def fh_HR (nx fi la fo : Nat → Int32) (va : Nat → Int64) (fr : Int32) (kd : Nat → List Nat) (Fl : List Nat) (PL : Nat → List Nat) (rt : Nat → Nat) (CC : Nat → fb_Con) : Prop :=
  fh_Hp nx fi la fr kd Fl PL rt ∧ (∀ j, j < 7 → PL j ≠ [] → fh_TC kd fo va (rt j) (CC j)) ∧ (∀ j, j < 6 → (PL j).length ≤ 61)
section
variable {nx fi la fo : Nat → Int32} {va : Nat → Int64} {fr : Int32} {kd : Nat → List Nat} {Fl : List Nat} {PL : Nat → List Nat} {rt : Nat → Nat} {CC : Nat → fb_Con}
theorem fh_HpQ (h : fh_Hp nx fi la fr kd Fl PL rt) {j : Nat} (hj : j < 7) (hp : PL j ≠ []) : fh_Pre kd (PL j) [rt j] := (h.2.2.2.1 j hj).resolve_left hp
theorem fh_HRroot {c : Nat} {Fl' : List Nat} (h : fh_HR nx fi la fo va fr kd (c :: Fl') PL rt CC) (h6 : PL 6 = []) : fh_HR (upd nx c (-1)) (upd fi c (-1)) la (upd fo c (nI 0)) (vp_updL va c 0) (nx c) (fun x => if x = c then [] else kd x) Fl' (fh_up PL 6 [c]) (fun j => if j = 6 then c else rt j) (fh_cc CC (fun _ => [])) := by
  obtain ⟨h1, h2, h3⟩ := h
  refine ⟨fh_root h1 h6, fun j hj hp => ?_, fun j hj => ?_⟩
  · by_cases e : j = 6
    · subst e
      dsimp only
      rw [if_pos rfl, fh_cc6]
      exact fh_TC0 (if_pos rfl)
    · rw [fh_up_n e] at hp
      dsimp only
      rw [if_neg e, fh_ccn e]
      refine fh_TCc (fh_HpQ h1 hj hp) (h2 j hj hp) (fun x hx => ?_)
      have hxc : x ≠ c := fun z => fh_HpY h1 hj hx (by rw [z]; exact List.mem_cons_self)
      exact ⟨if_neg hxc, pk_un hxc, pk_uLn hxc⟩
  · rw [fh_up_n (by omega)]; exact h3 j hj
theorem fh_AtM {rt q x m c : Nat} {v : Int32} {P : List Nat} (hp : fh_Pre kd P [rt]) (hc : c ∉ P) (h : fh_At kd fo rt q x) : fh_At (fh_kd kd m c) (upd fo c v) rt q x := by
  have hr := fh_Pr hp
  have kin : ∀ {x y}, x ∈ P → y ∈ kd x → y ∈ fh_kd kd m c x := by
    intro x y hx hy
    unfold fh_kd
    split
    · rename_i e; subst e; exact List.mem_append_left _ hy
    · rw [if_neg (fun z : x = c => hc (z ▸ hx))]; exact hy
  have fon : ∀ x, x ∈ P → upd fo c v x = fo x := fun x hx => pk_un (fun z => hc (z ▸ hx))
  rcases h with h | ⟨a1, a2, a3, a4⟩ | ⟨c', f, g, a0, a1, a2, a3, a4, a5, a6, a7, a8⟩
  · exact Or.inl h
  · exact Or.inr (Or.inl ⟨a1, a2, kin hr a3, (fon x (fh_PreK hp hr a3)).trans a4⟩)
  · have hcP := fh_PreK hp hr a5
    exact Or.inr (Or.inr ⟨c', f, g, a0, a1, a2, a3, a4, kin hr a5, (fon c' hcP).trans a6, kin hcP a7, (fon x (fh_PreK hp hcP a7)).trans a8⟩)
theorem fh_HRapp {c m q f : Nat} {Fl' : List Nat} {nx' fi' : Nat → Int32} (h : fh_HR nx fi la fo va fr kd (c :: Fl') PL rt CC) (h6 : PL 6 ≠ []) (hm : fh_At kd fo (rt 6) q m) (hu : ∀ x, fh_At kd fo (rt 6) q x → x = m) (h1 : 1 ≤ f) (h2 : f ≤ 15) (h0 : q < 16 → CC 6 (q * 16 + f) = [])
    (hx : (kd m = [] ∧ nx' = upd nx c (-1) ∧ fi' = upd (upd fi c (-1)) m (nI c)) ∨ (∃ A y, kd m = A ++ [y] ∧ nx' = upd (upd nx c (-1)) y (nI c) ∧ fi' = upd fi c (-1))) :
    ∃ P', P'.Perm (c :: PL 6) ∧ fh_HR nx' fi' (upd la m (nI c)) (upd fo c (nI f)) (vp_updL va c 0) (nx c) (fh_kd kd m c) Fl' (fh_up PL 6 P') rt (fh_cc CC (fb_up (CC 6) q (CC 6 q ++ [(f, 0)]))) := by
  obtain ⟨a1, a2, a3⟩ := h
  have hpre := fh_HpQ a1 (by omega) h6
  have hmP := fh_AtP hpre hm
  have hcP : ∀ j, j < 7 → c ∉ PL j := fun j hj hx => fh_HpY a1 hj hx List.mem_cons_self
  obtain ⟨P', p1, p2⟩ := fh_app a1 hmP hx
  refine ⟨P', p1, p2, fun j hj hp => ?_, fun j hj => ?_⟩
  · by_cases e : j = 6
    · subst e
      rw [fh_cc6]
      exact fh_TCapp hpre (fh_HpN a1 (by omega)) (a2 6 (by omega) h6) hm hu (hcP 6 (by omega)) h1 h2 h0
    · rw [fh_up_n e] at hp
      rw [fh_ccn e]
      refine fh_TCc (fh_HpQ a1 hj hp) (a2 j hj hp) (fun x hx => ?_)
      have hxc : x ≠ c := fun z => hcP j hj (z ▸ hx)
      have hxm : x ≠ m := fun z => e (fh_HpX a1 hj (by omega) (z ▸ hx) hmP)
      exact ⟨by unfold fh_kd; rw [if_neg hxm, if_neg hxc], pk_un hxc, pk_uLn hxc⟩
  · rw [fh_up_n (by omega)]; exact a3 j hj
theorem fh_HRset {m q x : Nat} {v : Int64} {A D : List Nat} {k1 k2 : List (Nat × Int64)} {p : Nat × Int64} (h : fh_HR nx fi la fo va fr kd Fl PL rt CC) (h6 : PL 6 ≠ []) (hm : fh_At kd fo (rt 6) q m) (hu : ∀ x, fh_At kd fo (rt 6) q x → x = m)
    (e1 : kd m = A ++ x :: D) (e2 : CC 6 q = k1 ++ p :: k2) (e3 : A.length = k1.length) : fh_HR nx fi la fo (vp_updL va x v) fr kd Fl PL rt (fh_cc CC (fb_up (CC 6) q (k1 ++ (p.1, v) :: k2))) := by
  obtain ⟨a1, a2, a3⟩ := h
  have hpre := fh_HpQ a1 (by omega) h6
  refine ⟨a1, fun j hj hp => ?_, a3⟩
  by_cases e : j = 6
  · subst e
    rw [fh_cc6]
    exact fh_TCset hpre (fh_HpN a1 (by omega)) (a2 6 (by omega) h6) hm hu e1 e2 e3
  · rw [fh_ccn e]
    refine fh_TCc (fh_HpQ a1 hj hp) (a2 j hj hp) (fun y hy => ⟨rfl, rfl, pk_uLn (fun z => ?_)⟩)
    subst z
    exact e (fh_HpX a1 hj (by omega) hy (fh_PreK hpre (fh_AtP hpre hm) (by rw [e1]; simp)))
theorem fh_HRfree {j : Nat} {nx' : Nat → Int32} {fr' : Int32} {Fl' : List Nat} (h : fh_HR nx fi la fo va fr kd Fl PL rt CC) (hj : j < 7) (g : fh_Hp nx' fi la fr' kd Fl' (fh_up PL j []) rt) : fh_HR nx' fi la fo va fr' kd Fl' (fh_up PL j []) rt CC := by
  refine ⟨g, fun i hi hp => ?_, fun i hi => ?_⟩
  · by_cases e : i = j
    · subst e; rw [fh_up_s] at hp; exact absurd rfl hp
    · rw [fh_up_n e] at hp; exact h.2.1 i hi hp
  · by_cases e : i = j
    · subst e; rw [fh_up_s]; exact Nat.zero_le _
    · rw [fh_up_n e]; exact h.2.2 i hi
theorem fh_HRmove {p : Nat} (h : fh_HR nx fi la fo va fr kd Fl PL rt CC) (hp : p < 6) (h0 : PL p = []) (h61 : (PL 6).length ≤ 61) : fh_HR nx fi la fo va fr kd Fl (fh_up (fh_up PL p (PL 6)) 6 []) (fun i => if i = p then rt 6 else rt i) (fun i => if i = p then CC 6 else CC i) := by
  refine ⟨fh_move h.1 hp h0, fun i hi hq => ?_, fun i hi => ?_⟩
  · by_cases e : i = 6
    · subst e; rw [fh_up_s] at hq; exact absurd rfl hq
    · rw [fh_up_n e] at hq
      dsimp only
      by_cases e2 : i = p
      · subst e2
        rw [fh_up_s] at hq
        rw [if_pos rfl, if_pos rfl]
        exact h.2.1 6 (by omega) hq
      · rw [fh_up_n e2] at hq
        rw [if_neg e2, if_neg e2]
        exact h.2.1 i hi hq
  · rw [fh_up_n (by omega)]
    by_cases e2 : i = p
    · subst e2; rw [fh_up_s]; exact h61
    · rw [fh_up_n e2]; exact h.2.2 i hi
end
theorem fa_e2 {en : Nat} (h : 1 ≤ en) (hb : en < 1000) : (nI en - 1) >>> ((2 : Int32) &&& 31) = nI ((en - 1) / 4) := by
  rw [show nI en - 1 = nI (en - 1) from pk_sub (b := 1) h]
  exact pk_shrN (by omega) _ 2 (by decide)
theorem fa_e1 {en : Nat} (h : 1 ≤ en) (hb : en < 1000) : (nI en - 1) &&& 1 = nI ((en - 1) % 2) := by
  rw [show nI en - 1 = nI (en - 1) from pk_sub (b := 1) h]
  exact pk_andN (by omega) 1 (by decide)
theorem fa_e3 {en : Nat} (h : 1 ≤ en) (hb : en < 1000) : (nI en - 1) &&& 3 = nI ((en - 1) % 4) := by
  rw [show nI en - 1 = nI (en - 1) from pk_sub (b := 1) h]
  exact pk_andN (by omega) 2 (by decide)
theorem fh_skS {fo : Nat → Int32} {num : Int32} {x : Nat} {D : List Nat} (hx : fo x = num) : ∀ {A : List Nat}, (∀ y, y ∈ A → fo y ≠ num) → fh_sk fo num (A ++ x :: D) = x :: D
  | [], _ => by rw [List.nil_append, fh_sk, if_pos hx]
  | a :: A, h => by rw [List.cons_append, fh_sk, if_neg (h a List.mem_cons_self), fh_skS hx (fun y hy => h y (List.mem_cons_of_mem _ hy))]
theorem fh_skN {fo : Nat → Int32} {num : Int32} : ∀ {l : List Nat}, (∀ y, y ∈ l → fo y ≠ num) → fh_sk fo num l = []
  | [], _ => rfl
  | a :: A, h => by rw [fh_sk, if_neg (h a List.mem_cons_self), fh_skN (fun y hy => h y (List.mem_cons_of_mem _ hy))]
section
variable {f_begun f_opened f_waiting f_time f_completions f_dropped f_free f_state f_taken f_fault f_frameCall f_at f_level f_packEnd f_shift f_need f_entry f_number : Int32} {f_acc : Int64} {a_schema a_callId a_callState a_deadline a_callRoot a_placeOf a_wheel a_wheelEnd a_later a_sooner a_done a_next a_first a_last a_fieldOf : Nat → Int32} {a_val : Nat → Int64} {a_endAt a_typeOf a_cellOf : Nat → Int32} {kd : Nat → List Nat} {Fl : List Nat} {PL : Nat → List Nat} {rt : Nat → Nat} {CC : Nat → fb_Con}
theorem fx_conv {post : Int64 → Prop} {k : Nat} (hk : k < 8) (K : post (fb_cv k f_acc)) : wpX_converted post (f_begun, f_opened, f_waiting, f_time, f_completions, f_dropped, f_free, f_state, f_taken, f_fault, f_frameCall, f_at, f_level, f_packEnd, f_shift, f_need, f_entry, f_number, f_acc, a_schema, a_callId, a_callState, a_deadline, a_callRoot, a_placeOf, a_wheel, a_wheelEnd, a_later, a_sooner, a_done, a_next, a_first, a_last, a_fieldOf, a_val, a_endAt, a_typeOf, a_cellOf) (nI k) := by
  unfold fb_cv at K
  refine br_f (nI_pos (by omega)) (pk_lt 3 k (fun h => ?_) (fun h => ?_))
  · rw [if_neg (by omega), if_neg (by omega), if_neg (by omega)] at K; exact K
  · refine pk_eq k 0 (fun h0 => ?_) (fun h0 => pk_eq k 1 (fun h1 => ?_) (fun h1 => pk_eq k 2 (fun h2 => ?_) (fun h2 => pk_eq k 3 (fun h3 => ?_) (fun h3 => ?_))))
    · rw [if_pos (Or.inl h0)] at K; exact K
    · rw [if_neg (by omega), if_pos h1] at K
      exact br_c (fun z => by rw [if_pos z] at K; exact K) (fun z => by rw [if_neg z] at K; exact K)
    · rw [if_neg (by omega), if_neg h1, if_pos h2] at K
      exact br_c (fun z => by rw [if_pos z] at K; exact K) (fun z => by rw [if_neg z] at K; exact K)
    · rw [if_pos (Or.inr h3)] at K; exact K
    · trivial
/-- a new cell at the end of message m -/
theorem fx_new {post : Int32 → SX → Prop} {Q : Int32 → SX → Prop} {q m f a : Nat} (h : fh_HR a_next a_first a_last a_fieldOf a_val f_free kd Fl PL rt CC) (h6 : PL 6 ≠ []) (hm : fh_At kd a_fieldOf (rt 6) q m) (hu : ∀ x, fh_At kd a_fieldOf (rt 6) q x → x = m) (h1 : 1 ≤ f) (h2 : f ≤ 15) (h0 : q < 16 → CC 6 (q * 16 + f) = []) (ha : a ≤ 60) (hl : (PL 6).length ≤ a)
    (H : ∀ (c : Nat) (fr' : Int32) (nx' fi' fo' : Nat → Int32) (va' : Nat → Int64), (∀ R : SX → Prop, (∀ nx2 fi2, post (nI c) (f_begun, f_opened, f_waiting, f_time, f_completions, f_dropped, fr', f_state, f_taken, f_fault, f_frameCall, f_at, f_level, f_packEnd, f_shift, f_need, f_entry, f_number, f_acc, a_schema, a_callId, a_callState, a_deadline, a_callRoot, a_placeOf, a_wheel, a_wheelEnd, a_later, a_sooner, a_done, nx2, fi2, upd a_last m (nI c), fo', va', a_endAt, a_typeOf, a_cellOf) → R (f_begun, f_opened, f_waiting, f_time, f_completions, f_dropped, fr', f_state, f_taken, f_fault, f_frameCall, f_at, f_level, f_packEnd, f_shift, f_need, f_entry, f_number, f_acc, a_schema, a_callId, a_callState, a_deadline, a_callRoot, a_placeOf, a_wheel, a_wheelEnd, a_later, a_sooner, a_done, nx2, fi2, upd a_last m (nI c), fo', va', a_endAt, a_typeOf, a_cellOf)) → wpX_append R (f_begun, f_opened, f_waiting, f_time, f_completions, f_dropped, fr', f_state, f_taken, f_fault, f_frameCall, f_at, f_level, f_packEnd, f_shift, f_need, f_entry, f_number, f_acc, a_schema, a_callId, a_callState, a_deadline, a_callRoot, a_placeOf, a_wheel, a_wheelEnd, a_later, a_sooner, a_done, nx', fi', a_last, fo', va', a_endAt, a_typeOf, a_cellOf) (nI m) (nI c)) → Q (nI c) (f_begun, f_opened, f_waiting, f_time, f_completions, f_dropped, fr', f_state, f_taken, f_fault, f_frameCall, f_at, f_level, f_packEnd, f_shift, f_need, f_entry, f_number, f_acc, a_schema, a_callId, a_callState, a_deadline, a_callRoot, a_placeOf, a_wheel, a_wheelEnd, a_later, a_sooner, a_done, nx', fi', a_last, fo', va', a_endAt, a_typeOf, a_cellOf))
    (K : ∀ c nx' fi' la' fo' va' fr' kd' Fl' PL', fh_HR nx' fi' la' fo' va' fr' kd' Fl' PL' rt (fh_cc CC (fb_up (CC 6) q (CC 6 q ++ [(f, 0)]))) → (PL' 6).length ≤ (PL 6).length + 1 → PL' 6 ≠ [] → (∀ j, j < 6 → PL' j = PL j) → (∀ q' x', fh_At kd a_fieldOf (rt 6) q' x' → fh_At kd' fo' (rt 6) q' x') → kd' m = kd m ++ [c] → fo' c = nI f → c < 427 → (∀ x, x ∈ kd m → fo' x = a_fieldOf x) → post (nI c) (f_begun, f_opened, f_waiting, f_time, f_completions, f_dropped, fr', f_state, f_taken, f_fault, f_frameCall, f_at, f_level, f_packEnd, f_shift, f_need, f_entry, f_number, f_acc, a_schema, a_callId, a_callState, a_deadline, a_callRoot, a_placeOf, a_wheel, a_wheelEnd, a_later, a_sooner, a_done, nx', fi', la', fo', va', a_endAt, a_typeOf, a_cellOf)) :
    wpX_cell Q (f_begun, f_opened, f_waiting, f_time, f_completions, f_dropped, f_free, f_state, f_taken, f_fault, f_frameCall, f_at, f_level, f_packEnd, f_shift, f_need, f_entry, f_number, f_acc, a_schema, a_callId, a_callState, a_deadline, a_callRoot, a_placeOf, a_wheel, a_wheelEnd, a_later, a_sooner, a_done, a_next, a_first, a_last, a_fieldOf, a_val, a_endAt, a_typeOf, a_cellOf) (nI f) := by
  obtain ⟨c, Fl', rfl, rfl, hc⟩ := fh_room h.1 ha h.2.2 hl
  have hpre := fh_HpQ h.1 (by omega) h6
  have hmP := fh_AtP hpre hm
  have hmb := fh_HpL h.1 (by omega) hmP
  have hcP : c ∉ PL 6 := fun hx => fh_HpY h.1 (by omega) hx List.mem_cons_self
  have hmc : m ≠ c := fun z => hcP (z ▸ hmP)
  have hk := h.1.2.2.2.2 6 (by omega) m hmP
  refine fx_cell hc (by omega) (H c _ _ _ _ _ (fun R HR => ?_))
  refine fx_app2 hc hmb hmc hk (fun x hx => fh_HpL h.1 (j := 6) (by omega) (fh_HpK h.1 (by omega) hmP hx)) (fun nx' fi' hx => HR _ _ ?_)
  obtain ⟨P', p1, p2⟩ := fh_HRapp (f := f) h h6 hm hu h1 h2 h0 hx
  refine K c nx' fi' _ _ _ _ _ _ _ p2 ?_ ?_ (fun j hj => fh_up_n (by omega)) (fun q' x' hA => fh_AtM hpre hcP hA) (if_pos rfl) pk_us hc (fun x hx => pk_un (fun z => hcP (z ▸ fh_HpK h.1 (by omega) hmP hx)))
  · rw [fh_up_s, p1.length_eq, List.length_cons]; exact Nat.le_refl _
  · rw [fh_up_s]
    intro z
    rw [z] at p1
    exact absurd p1.length_eq (by simp)
theorem fx_single {post : Int32 → SX → Prop} {q m f a lv : Nat} (h : fh_HR a_next a_first a_last a_fieldOf a_val f_free kd Fl PL rt CC) (h6 : PL 6 ≠ []) (hm : fh_At kd a_fieldOf (rt 6) q m) (hu : ∀ x, fh_At kd a_fieldOf (rt 6) q x → x = m) (hC : ∀ p, p ∈ CC 6 q → p.1 ≤ 15) (hlv : lv < 4) (hce : a_cellOf lv = nI m) (h1 : 1 ≤ f) (h2 : f ≤ 15) (h0 : fb_F f (CC 6 q) = [] → q < 16 → CC 6 (q * 16 + f) = []) (ha : a ≤ 60) (hl : (PL 6).length ≤ a)
    (K : ∀ x nx' fi' la' fo' va' fr' kd' Fl' PL' A D k1 p k2, fh_HR nx' fi' la' fo' va' fr' kd' Fl' PL' rt (fh_cc CC (fb_up (CC 6) q (fb_mk (CC 6 q) f))) → (PL' 6).length ≤ (PL 6).length + 1 → PL' 6 ≠ [] → (∀ j, j < 6 → PL' j = PL j) → (∀ q' x', fh_At kd a_fieldOf (rt 6) q' x' → fh_At kd' fo' (rt 6) q' x') →
      kd' m = A ++ x :: D → fb_mk (CC 6 q) f = k1 ++ p :: k2 → A.length = k1.length → p.1 = f → (∀ y, y ∈ k1 → y.1 ≠ f) → fo' x = nI f → x < 427 → post (nI x) (f_begun, f_opened, f_waiting, f_time, f_completions, f_dropped, fr', f_state, f_taken, f_fault, f_frameCall, f_at, nI lv, f_packEnd, f_shift, f_need, f_entry, nI f, f_acc, a_schema, a_callId, a_callState, a_deadline, a_callRoot, a_placeOf, a_wheel, a_wheelEnd, a_later, a_sooner, a_done, nx', fi', la', fo', va', a_endAt, a_typeOf, a_cellOf)) :
    wpX_single post (f_begun, f_opened, f_waiting, f_time, f_completions, f_dropped, f_free, f_state, f_taken, f_fault, f_frameCall, f_at, nI lv, f_packEnd, f_shift, f_need, f_entry, nI f, f_acc, a_schema, a_callId, a_callState, a_deadline, a_callRoot, a_placeOf, a_wheel, a_wheelEnd, a_later, a_sooner, a_done, a_next, a_first, a_last, a_fieldOf, a_val, a_endAt, a_typeOf, a_cellOf) := by
  have hpre := fh_HpQ h.1 (by omega) h6
  have hmP := fh_AtP hpre hm
  have hmb := fh_HpL h.1 (by omega) hmP
  have hk := h.1.2.2.2.2 6 (by omega) m hmP
  have hct := (h.2.1 6 (by omega) h6 q m hm).1
  have hkb : ∀ x, x ∈ kd m → x < 427 := fun x hx => fh_HpL h.1 (j := 6) (by omega) (fh_HpK h.1 (by omega) hmP hx)
  have ec : a_cellOf (nI lv).toNatClampNeg = nI m := by rw [nI_clamp (by omega)]; exact hce
  have ef : a_first (nI m).toNatClampNeg = fa_hd (kd m) := by rw [nI_clamp (by omega)]; exact hk.1
  refine And.intro (vp_in_nI hlv (by decide)) (nm_r ec (And.intro (vp_in_nI hmb (by decide)) ?_))
  rw [ef]
  refine fx_seek hk.2.2 hkb ?_
  rcases fh_CTs (f := f) (by omega) hct hC with ⟨g1, g2⟩ | ⟨A, x, D, k1, p, k2, g1, g2, g3, g4, g5, g6, g7⟩
  · rw [fh_skN g2]
    refine br_t fa_m1l ?_
    refine fx_new (post := post) h h6 hm hu h1 h2 (h0 g1) ha hl (fun c fr' nx' fi' fo' va' W => W _ (fun _ _ z => z)) ?_
    intro c nx' fi' la' fo' va' fr' kd' Fl' PL' b1 b2 b3 b4 b5 b6 b7 b8 b9
    have em := fb_mkN g1
    rw [← em] at b1
    refine K c nx' fi' la' fo' va' fr' kd' Fl' PL' (kd m) [] (CC 6 q) (f, 0) [] b1 b2 b3 b4 b5 b6 em (fh_CTl hct) rfl (fun y hy z => ?_) b7 b8
    have : y ∈ fb_F f (CC 6 q) := by
      unfold fb_F
      rw [List.mem_filter]
      exact ⟨hy, decide_eq_true z⟩
    rw [g1] at this
    exact nomatch this
  · have hx : x ∈ kd m := by rw [g1]; simp
    rw [g1, fh_skS g5 g6]
    have hxb := hkb x hx
    refine br_f (nI_pos (by omega)) ?_
    have em : fb_mk (CC 6 q) f = CC 6 q := by rw [g2]; exact fb_mkS g4 g7
    have hh : fh_HR a_next a_first a_last a_fieldOf a_val f_free kd Fl PL rt (fh_cc CC (fb_up (CC 6) q (fb_mk (CC 6 q) f))) := by
      rw [em, fb_upE, fh_ccE]; exact h
    exact K x a_next a_first a_last a_fieldOf a_val f_free kd Fl PL A D k1 p k2 hh (by omega) h6 (fun _ _ => rfl) (fun _ _ z => z) g1 (em.trans g2) g3 g4 g7 g5 hxb
/-- a value that is complete is stored -/
theorem fx_ve {post : SX → Prop} {q m f a lv en : Nat} (h : fh_HR a_next a_first a_last a_fieldOf a_val f_free kd Fl PL rt CC) (h6 : PL 6 ≠ []) (hm : fh_At kd a_fieldOf (rt 6) q m) (hu : ∀ x, fh_At kd a_fieldOf (rt 6) q x → x = m) (hC : ∀ p, p ∈ CC 6 q → p.1 ≤ 15) (hlv : lv < 4) (hce : a_cellOf lv = nI m) (h1 : 1 ≤ f) (h2 : f ≤ 15) (h0 : ((en - 1) % 2 = 1 ∨ fb_F f (CC 6 q) = []) → q < 16 → CC 6 (q * 16 + f) = []) (ha : a ≤ 60) (hl : (PL 6).length ≤ a) (he : 1 ≤ en) (he2 : en ≤ 28)
    (hu2 : ∀ kd' fo', (∀ q' x', fh_At kd a_fieldOf (rt 6) q' x' → fh_At kd' fo' (rt 6) q' x') → ∀ nx' fi' la' va' fr' Fl' PL' C', fh_HR nx' fi' la' fo' va' fr' kd' Fl' PL' rt (fh_cc CC C') → PL' 6 ≠ [] → (C' = fb_up (CC 6) q (CC 6 q ++ [(f, 0)]) ∨ C' = fb_up (CC 6) q (fb_mk (CC 6 q) f)) → ∀ x, fh_At kd' fo' (rt 6) q x → x = m)
    (K : ∀ nx' fi' la' fo' va' fr' kd' Fl' PL', fh_HR nx' fi' la' fo' va' fr' kd' Fl' PL' rt (fh_cc CC (fb_ad (CC 6) q f ((en - 1) % 2) (fb_cv ((en - 1) / 4) f_acc))) → (PL' 6).length ≤ (PL 6).length + 1 → PL' 6 ≠ [] → (∀ j, j < 6 → PL' j = PL j) → (∀ q' x', fh_At kd a_fieldOf (rt 6) q' x' → fh_At kd' fo' (rt 6) q' x') →
      wX_valueEnds_68 post f_begun f_opened f_waiting f_time f_completions f_dropped fr' f_state f_taken f_fault f_frameCall f_at (nI lv) f_packEnd f_shift f_need (nI en) (nI f) f_acc a_schema a_callId a_callState a_deadline a_callRoot a_placeOf a_wheel a_wheelEnd a_later a_sooner a_done nx' fi' la' fo' va' a_endAt a_typeOf a_cellOf) :
    wpX_valueEnds post (f_begun, f_opened, f_waiting, f_time, f_completions, f_dropped, f_free, f_state, f_taken, f_fault, f_frameCall, f_at, nI lv, f_packEnd, f_shift, f_need, nI en, nI f, f_acc, a_schema, a_callId, a_callState, a_deadline, a_callRoot, a_placeOf, a_wheel, a_wheelEnd, a_later, a_sooner, a_done, a_next, a_first, a_last, a_fieldOf, a_val, a_endAt, a_typeOf, a_cellOf) := by
  have hpre := fh_HpQ h.1 (by omega) h6
  have hmP := fh_AtP hpre hm
  refine br_f (nI_ne0 he (by omega)) ?_
  rw [fa_e1 he (by omega)]
  refine pk_eq ((en - 1) % 2) 1 (fun hr => ?_) (fun hr => ?_)
  · refine fx_new (post := fun r u => wX_valueEnds_50 post r u.1 u.2.1 u.2.2.1 u.2.2.2.1 u.2.2.2.2.1 u.2.2.2.2.2.1 u.2.2.2.2.2.2.1 u.2.2.2.2.2.2.2.1 u.2.2.2.2.2.2.2.2.1 u.2.2.2.2.2.2.2.2.2.1 u.2.2.2.2.2.2.2.2.2.2.1 u.2.2.2.2.2.2.2.2.2.2.2.1 u.2.2.2.2.2.2.2.2.2.2.2.2.1 u.2.2.2.2.2.2.2.2.2.2.2.2.2.1 u.2.2.2.2.2.2.2.2.2.2.2.2.2.2.1 u.2.2.2.2.2.2.2.2.2.2.2.2.2.2.2.1 u.2.2.2.2.2.2.2.2.2.2.2.2.2.2.2.2.1 u.2.2.2.2.2.2.2.2.2.2.2.2.2.2.2.2.2.1 u.2.2.2.2.2.2.2.2.2.2.2.2.2.2.2.2.2.2.1 u.2.2.2.2.2.2.2.2.2.2.2.2.2.2.2.2.2.2.2.1 u.2.2.2.2.2.2.2.2.2.2.2.2.2.2.2.2.2.2.2.2.1 u.2.2.2.2.2.2.2.2.2.2.2.2.2.2.2.2.2.2.2.2.2.1 u.2.2.2.2.2.2.2.2.2.2.2.2.2.2.2.2.2.2.2.2.2.2.1 u.2.2.2.2.2.2.2.2.2.2.2.2.2.2.2.2.2.2.2.2.2.2.2.1 u.2.2.2.2.2.2.2.2.2.2.2.2.2.2.2.2.2.2.2.2.2.2.2.2.1 u.2.2.2.2.2.2.2.2.2.2.2.2.2.2.2.2.2.2.2.2.2.2.2.2.2.1 u.2.2.2.2.2.2.2.2.2.2.2.2.2.2.2.2.2.2.2.2.2.2.2.2.2.2.1 u.2.2.2.2.2.2.2.2.2.2.2.2.2.2.2.2.2.2.2.2.2.2.2.2.2.2.2.1 u.2.2.2.2.2.2.2.2.2.2.2.2.2.2.2.2.2.2.2.2.2.2.2.2.2.2.2.2.1 u.2.2.2.2.2.2.2.2.2.2.2.2.2.2.2.2.2.2.2.2.2.2.2.2.2.2.2.2.2.1 u.2.2.2.2.2.2.2.2.2.2.2.2.2.2.2.2.2.2.2.2.2.2.2.2.2.2.2.2.2.2.1 u.2.2.2.2.2.2.2.2.2.2.2.2.2.2.2.2.2.2.2.2.2.2.2.2.2.2.2.2.2.2.2.1 u.2.2.2.2.2.2.2.2.2.2.2.2.2.2.2.2.2.2.2.2.2.2.2.2.2.2.2.2.2.2.2.2.1 u.2.2.2.2.2.2.2.2.2.2.2.2.2.2.2.2.2.2.2.2.2.2.2.2.2.2.2.2.2.2.2.2.2.1 u.2.2.2.2.2.2.2.2.2.2.2.2.2.2.2.2.2.2.2.2.2.2.2.2.2.2.2.2.2.2.2.2.2.2.1 u.2.2.2.2.2.2.2.2.2.2.2.2.2.2.2.2.2.2.2.2.2.2.2.2.2.2.2.2.2.2.2.2.2.2.2.1 u.2.2.2.2.2.2.2.2.2.2.2.2.2.2.2.2.2.2.2.2.2.2.2.2.2.2.2.2.2.2.2.2.2.2.2.2.1 u.2.2.2.2.2.2.2.2.2.2.2.2.2.2.2.2.2.2.2.2.2.2.2.2.2.2.2.2.2.2.2.2.2.2.2.2.2) h h6 hm hu h1 h2 (h0 (Or.inl hr)) ha hl (fun c fr' nx' fi' fo' va' W => ?_) ?_
    · refine And.intro (vp_in_nI hlv (by decide)) ?_
      rw [nI_clamp (by omega), hce]
      exact W _ (fun _ _ z => z)
    · intro c nx' fi' la' fo' va' fr' kd' Fl' PL' b1 b2 b3 b4 b5 b6 b7 b8 b9
      dsimp only
      unfold wX_valueEnds_50
      rw [fa_e2 he (by omega)]
      refine fx_conv (by omega) (And.intro (vp_in_nI b8 (by decide)) (nm_r (e' := vp_updL va' c (fb_cv ((en - 1) / 4) f_acc)) (by rw [nI_clamp (by omega)]) ?_))
      have hct := (h.2.1 6 (by omega) h6 q m hm).1
      have hs := fh_HRset (v := fb_cv ((en - 1) / 4) f_acc) (A := kd m) (x := c) (D := []) (k1 := CC 6 q) (p := (f, 0)) (k2 := []) b1 b3 (b5 q m hm) (hu2 kd' fo' b5 _ _ _ _ _ _ _ _ b1 b3 (Or.inl rfl)) b6 (by rw [fh_cc6, fb_up_s]) (fh_CTl hct)
      rw [fh_cc2, fh_cc6, fb_up2] at hs
      refine K nx' fi' la' fo' _ fr' kd' Fl' PL' ?_ b2 b3 b4 b5
      unfold fb_ad
      rw [if_pos hr]
      exact hs
  · refine fx_single h h6 hm hu hC hlv hce h1 h2 (fun z => h0 (Or.inr z)) ha hl ?_
    intro x nx' fi' la' fo' va' fr' kd' Fl' PL' A D k1 p k2 b1 b2 b3 b4 b5 b6 b7 b8 b9 b10 b11 b12
    show wX_valueEnds_50 _ _ _ _ _ _ _ _ _ _ _ _ _ _ _ _ _ _ _ _ _ _ _ _ _ _ _ _ _ _ _ _ _ _ _ _ _ _ _ _
    unfold wX_valueEnds_50
    rw [fa_e2 he (by omega)]
    refine fx_conv (by omega) (And.intro (vp_in_nI b12 (by decide)) (nm_r (e' := vp_updL va' x (fb_cv ((en - 1) / 4) f_acc)) (by rw [nI_clamp (by omega)]) ?_))
    have hs := fh_HRset (v := fb_cv ((en - 1) / 4) f_acc) b1 b3 (b5 q m hm) (hu2 kd' fo' b5 _ _ _ _ _ _ _ _ b1 b3 (Or.inr rfl)) b6 (by rw [fh_cc6, fb_up_s]; exact b7) b8
    rw [fh_cc2, fh_cc6, fb_up2] at hs
    refine K nx' fi' la' fo' _ fr' kd' Fl' PL' ?_ b2 b3 b4 b5
    unfold fb_ad
    rw [if_neg hr, b7, fb_ptS b9 b10]
    rw [b9] at hs
    exact hs
end
end
section
/-! the component's frame: its state and a reading -/
def fx_St (en ty : Nat → Int32) : fb_Stk → Prop
  | [] => True
  | x :: r => en (r.length + 1) = nI x.1 ∧ ty (r.length + 1) = nI x.2.1 ∧ fx_St en ty r
def fx_Ce (ce : Nat → Int32) (kd : Nat → List Nat) (fo : Nat → Int32) (rt : Nat) : fb_Stk → Prop
  | [] => True
  | x :: r => (∃ m, ce (r.length + 1) = nI m ∧ fh_At kd fo rt x.2.2 m) ∧ fx_Ce ce kd fo rt r
theorem fx_StU {en ty : Nat → Int32} {v w : Int32} : ∀ {r : fb_Stk} {k : Nat}, fx_St en ty r → r.length < k → fx_St (upd en k v) (upd ty k w) r
  | [], _, _, _ => trivial
  | x :: r, k, h, hk => by
    rw [List.length_cons] at hk
    exact ⟨(pk_un (by omega)).trans h.1, (pk_un (by omega)).trans h.2.1, fx_StU h.2.2 (by omega)⟩
theorem fx_CeU {ce : Nat → Int32} {kd : Nat → List Nat} {fo : Nat → Int32} {rt : Nat} {v : Int32} : ∀ {r : fb_Stk} {k : Nat}, fx_Ce ce kd fo rt r → r.length < k → fx_Ce (upd ce k v) kd fo rt r
  | [], _, _, _ => trivial
  | x :: r, k, ⟨⟨m, h1, h2⟩, h3⟩, hk => by
    rw [List.length_cons] at hk
    exact ⟨⟨m, (pk_un (by omega)).trans h1, h2⟩, fx_CeU h3 (by omega)⟩
theorem fx_CeM {ce : Nat → Int32} {kd kd' : Nat → List Nat} {fo fo' : Nat → Int32} {rt : Nat} (g : ∀ q x, fh_At kd fo rt q x → fh_At kd' fo' rt q x) : ∀ {r : fb_Stk}, fx_Ce ce kd fo rt r → fx_Ce ce kd' fo' rt r
  | [], _ => trivial
  | x :: r, ⟨⟨m, h1, h2⟩, h3⟩ => ⟨⟨m, h1, g _ _ h2⟩, fx_CeM g h3⟩
/-- what the entry being read is, and how far -/
def fx_Mo (sch : Nat → Nat) (B : Nat → Int32) (at' s : Nat) (stk : fb_Stk) (pk : Option (Nat × Nat × Nat)) (st pe sh nd en nu : Int32) (ac : Int64) : Prop :=
  (stk = [] ∧ pk = none ∧ st = 2 ∧ at' = s) ∨
  (∃ e ty pa r, stk = (e, ty, pa) :: r ∧
    ((pk = none ∧ pe = -1 ∧ st = 2 ∧ ∃ n, at' = s + n ∧ at' < e ∧ sh = nI n ∧ fb_Pv B s n ac) ∨
     (pk = none ∧ pe = -1 ∧ ∃ s1 a, fb_Key B s e s1 a ∧ en = nI (fb_ky sch ty a) ∧ nu = nI (fb_f a) ∧
       ((∃ n, ((st = 3 ∧ fb_w a = 0) ∨ (st = 5 ∧ fb_w a = 2)) ∧ at' = s1 + n ∧ at' < e ∧ sh = nI n ∧ fb_Pv B s1 n ac) ∨
        (∃ n, st = 4 ∧ (fb_w a = 1 ∨ fb_w a = 5) ∧ fb_ky sch ty a ≠ 0 ∧ at' = s1 + n ∧ n < fb_le (fb_w a) ∧ nd = nI (fb_le (fb_w a)) ∧ sh = nI n ∧ ac = fb_ba B s1 n) ∨
        (∃ n, st = 6 ∧ fb_ky sch ty a = 0 ∧ 0 < n ∧ nd = nI n ∧
          (((fb_w a = 1 ∨ fb_w a = 5) ∧ s1 ≤ at' ∧ at' + n = s1 + fb_le (fb_w a)) ∨
           (fb_w a = 2 ∧ ∃ s2 m, fb_Vr B s1 e s2 (lN m) ∧ s2 + m ≤ e ∧ s2 ≤ at' ∧ at' + n = s2 + m))))) ∨
     (∃ p k f, pk = some (p, k, f) ∧ pe = nI p ∧ en = nI k ∧ nu = nI f ∧
       ((∃ n, st = 3 ∧ (k - 1) / 4 ≠ 3 ∧ (k - 1) / 4 ≠ 5 ∧ at' = s + n ∧ at' < p ∧ sh = nI n ∧ fb_Pv B s n ac) ∨
        (∃ n w, st = 4 ∧ ((k - 1) / 4 = 3 ∧ w = 4 ∨ (k - 1) / 4 = 5 ∧ w = 8) ∧ at' = s + n ∧ n < w ∧ s + w ≤ p ∧ nd = nI w ∧ sh = nI n ∧ ac = fb_ba B s n)))))
def fx_Fm (sch : Nat → Nat) (B : Nat → Int32) (sz at' s : Nat) (stk : fb_Stk) (pk : Option (Nat × Nat × Nat)) (C : fb_Con) (st lv pe sh nd en nu : Int32) (ac : Int64) (ea ta : Nat → Int32) : Prop :=
  fb_Tr sch B sz s stk pk C ∧ lv = nI stk.length ∧ fx_St ea ta stk ∧ fx_Mo sch B at' s stk pk st pe sh nd en nu ac
def fx_Hs (nx fi la fo : Nat → Int32) (va : Nat → Int64) (fr : Int32) (ce : Nat → Int32) (kd : Nat → List Nat) (Fl : List Nat) (PL : Nat → List Nat) (rt : Nat → Nat) (CC : Nat → fb_Con) (at' : Nat) (stk : fb_Stk) : Prop :=
  fh_HR nx fi la fo va fr kd Fl PL rt CC ∧ PL 6 ≠ [] ∧ (PL 6).length ≤ at' + 1 ∧ fx_Ce ce kd fo (rt 6) stk ∧ ce 1 = nI (rt 6)
/-- the open message's cell is the only one of its kind -/
theorem fx_hq {sch : Nat → Nat} {stk : fb_Stk} {C : fb_Con} {q t : Nat} (h : fb_WC sch stk C) (ht : fb_PT sch q t) :
    (1 ≤ q → q ≤ 15 → (fb_F q (C 0)).length ≤ 1) ∧ (16 ≤ q → (fb_F (q / 16) (C 0)).length ≤ 1 ∧ (fb_F (q % 16) (C (q / 16))).length ≤ 1) := by
  obtain ⟨_, c2, _, _⟩ := h
  rcases ht with ⟨h0, _⟩ | hm | ⟨f, g, t1, e, hm, hm2⟩
  · exact ⟨fun _ _ => by omega, fun _ => by omega⟩
  · obtain ⟨a1, a2, a3, a4⟩ := hm
    refine ⟨fun _ _ => c2 0 0 q (Or.inl ⟨rfl, rfl⟩) (Or.inr (by rw [a4]; omega)), fun _ => by omega⟩
  · have hm' := hm
    obtain ⟨a1, a2, a3, a4⟩ := hm
    obtain ⟨b1, b2, b3, b4⟩ := hm2
    have e1 : q / 16 = f := by omega
    have e2 : q % 16 = g := by omega
    refine ⟨fun _ _ => by omega, fun _ => ?_⟩
    rw [e1, e2]
    exact ⟨c2 0 0 f (Or.inl ⟨rfl, rfl⟩) (Or.inr (by rw [a4]; omega)), c2 f t1 g (Or.inr (Or.inl hm')) (Or.inr (by rw [b4]; omega))⟩
theorem fx_h0 {sch : Nat → Nat} {stk : fb_Stk} {C : fb_Con} {q t f : Nat} (h : fb_WC sch stk C) (ht : fb_PT sch q t) (h1 : 1 ≤ f) (h2 : f ≤ 15) (hk : (sch (t * 16 + f) - 1) / 4 ≠ 6 ∨ fb_F f (C q) = []) (hq : q < 16) : C (q * 16 + f) = [] := by
  by_cases hz : C (q * 16 + f) = []
  · exact hz
  · exfalso
    obtain ⟨_, _, c3, _⟩ := h
    obtain ⟨o, t', p⟩ := c3 _ hz
    have hF : fb_F f (C q) ≠ [] := by
      rcases o with o | ⟨o1, o2⟩ | ⟨o1, o2, o3⟩
      · omega
      · have e1 : q = 0 := by omega
        subst e1
        rw [Nat.zero_mul, Nat.zero_add] at o2
        exact o2
      · rw [show (q * 16 + f) / 16 = q from by omega, show (q * 16 + f) % 16 = f from by omega] at o3
        exact o3
    rcases hk with hk | hk
    · refine hk ?_
      rcases p with ⟨p1, _⟩ | ⟨p1, p2, p3, p4⟩ | ⟨f', g', t1, e, hm, hm2⟩
      · omega
      · have e1 : q = 0 := by omega
        subst e1
        have e2 : t = 0 := fb_PTu ht (Or.inl ⟨rfl, rfl⟩)
        subst e2
        rw [Nat.zero_mul, Nat.zero_add] at p4
        rw [p4]; omega
      · have hm' := hm
        obtain ⟨a1, a2, a3, a4⟩ := hm
        obtain ⟨b1, b2, b3, b4⟩ := hm2
        have e1 : f' = q := by omega
        have e2 : g' = f := by omega
        subst e1 e2
        have e3 : t = t1 := fb_PTu ht (Or.inr (Or.inl hm'))
        subst e3
        rw [b4]; omega
    · exact hF hk
theorem fx_hu2 {sch : Nat → Nat} {stk : fb_Stk} {CC : Nat → fb_Con} {q t f m : Nat} {rt : Nat → Nat} {kd : Nat → List Nat} {fo : Nat → Int32} (h : fb_WC sch stk (CC 6)) (ht : fb_PT sch q t) (h1 : 1 ≤ f) (h2 : f ≤ 15) (hm : fh_At kd fo (rt 6) q m) :
    ∀ kd' fo', (∀ q' x', fh_At kd fo (rt 6) q' x' → fh_At kd' fo' (rt 6) q' x') → ∀ nx' fi' la' va' fr' Fl' PL' C', fh_HR nx' fi' la' fo' va' fr' kd' Fl' PL' rt (fh_cc CC C') → PL' 6 ≠ [] → (C' = fb_up (CC 6) q (CC 6 q ++ [(f, 0)]) ∨ C' = fb_up (CC 6) q (fb_mk (CC 6 q) f)) → ∀ x, fh_At kd' fo' (rt 6) q x → x = m := by
  intro kd' fo' g nx' fi' la' va' fr' Fl' PL' C' hH hP hC x hx
  have hq := fx_hq h ht
  have hn : ∀ z, z ≠ q → C' z = CC 6 z := fun z hz => by
    rcases hC with rfl | rfl <;> exact fb_up_n hz
  have hb : ∀ z p, p ∈ C' z → 1 ≤ p.1 ∧ p.1 ≤ 15 := by
    intro z p hp
    by_cases e : z = q
    · subst e
      rcases hC with rfl | rfl
      · rw [fb_up_s, List.mem_append, List.mem_singleton] at hp
        rcases hp with hp | hp
        · exact h.1 _ p hp
        · rw [hp]; exact ⟨h1, h2⟩
      · rw [fb_up_s] at hp
        rcases fb_mk_mem hp with hp | hp
        · exact h.1 _ p hp
        · rw [hp]; exact ⟨h1, h2⟩
    · rw [hn z e] at hp; exact h.1 z p hp
  have ht6 := hH.2.1 6 (by omega) hP
  rw [fh_cc6] at ht6
  refine fh_AtU (fh_HpQ hH.1 (by omega) hP) (fh_HpN hH.1 (by omega)) ht6 hb ⟨fun a1 a2 => ?_, fun a1 => ?_⟩ (g q m hm) hx
  · rw [hn 0 (by omega)]; exact hq.1 a1 a2
  · rw [hn 0 (by omega), hn (q / 16) (by omega)]; exact hq.2 a1
section
variable {f_begun f_opened f_waiting f_time f_completions f_dropped f_free f_state f_taken f_fault f_frameCall f_at f_level f_packEnd f_shift f_need f_entry f_number : Int32} {f_acc : Int64} {a_schema a_callId a_callState a_deadline a_callRoot a_placeOf a_wheel a_wheelEnd a_later a_sooner a_done a_next a_first a_last a_fieldOf : Nat → Int32} {a_val : Nat → Int64} {a_endAt a_typeOf a_cellOf : Nat → Int32} {sch : Nat → Nat} {B : Nat → Int32} {sz : Nat} {C : fb_Con}
theorem fx_nextL {post : SX → Prop} {Q : fb_Stk → Prop} {s : Nat} (hs : fb_Sc sch) (hz : sz ≤ 60) (hQ : ∀ x r, Q (x :: r) → Q r)
    (K : ∀ stk', fb_Tr sch B sz s stk' none C → fx_St a_endAt a_typeOf stk' → Q stk' → (∀ e ty pa r, stk' = (e, ty, pa) :: r → s < e) → post (f_begun, f_opened, f_waiting, f_time, f_completions, f_dropped, f_free, 2, f_taken, f_fault, f_frameCall, nI s, nI stk'.length, f_packEnd, 0, 0, f_entry, f_number, 0, a_schema, a_callId, a_callState, a_deadline, a_callRoot, a_placeOf, a_wheel, a_wheelEnd, a_later, a_sooner, a_done, a_next, a_first, a_last, a_fieldOf, a_val, a_endAt, a_typeOf, a_cellOf)) :
    ∀ {stk : fb_Stk}, fb_Tr sch B sz s stk none C → fx_St a_endAt a_typeOf stk → Q stk → wX_nextEntry_0 post f_begun f_opened f_waiting f_time f_completions f_dropped f_free f_state f_taken f_fault f_frameCall (nI s) f_packEnd f_shift f_need f_entry f_number f_acc a_schema a_callId a_callState a_deadline a_callRoot a_placeOf a_wheel a_wheelEnd a_later a_sooner a_done a_next a_first a_last a_fieldOf a_val a_endAt a_typeOf a_cellOf (stk.length + 1) (nI stk.length)
  | [], t, h, q => br_t (by decide) (K [] t h q (fun _ _ _ _ z => nomatch z))
  | (e, ty, pa) :: r, t, h, q => by
    obtain ⟨u1, u2, u3, u4, u5⟩ := fb_WStop (fb_W hs t).1
    have hl : ((e, ty, pa) :: r).length = r.length + 1 := rfl
    rw [hl]
    have ee : a_endAt (nI (r.length + 1)).toNatClampNeg = nI e := by rw [nI_clamp (by omega)]; exact h.1
    refine br_f (nI_nle (by omega) (by omega)) (And.intro (vp_in_nI (by omega) (by decide)) ?_)
    rw [ee]
    refine pk_eq s e (fun he => nm_r (nI_pred r.length) ?_) (fun he => ?_)
    · subst he
      exact fx_nextL hs hz hQ K ((fb_TrC sch B sz).2.1 _ _ _ _ _ t) h.2.2 (hQ _ _ q)
    · refine K ((e, ty, pa) :: r) t h q (fun e' ty' pa' r' z => ?_)
      cases z
      omega
theorem fx_next {post : SX → Prop} {Q : fb_Stk → Prop} {s : Nat} {stk : fb_Stk} (hs : fb_Sc sch) (hz : sz ≤ 60) (hQ : ∀ x r, Q (x :: r) → Q r) (t : fb_Tr sch B sz s stk none C) (h : fx_St a_endAt a_typeOf stk) (q : Q stk)
    (K : ∀ stk', fb_Tr sch B sz s stk' none C → fx_St a_endAt a_typeOf stk' → Q stk' → (∀ e ty pa r, stk' = (e, ty, pa) :: r → s < e) → post (f_begun, f_opened, f_waiting, f_time, f_completions, f_dropped, f_free, 2, f_taken, f_fault, f_frameCall, nI s, nI stk'.length, f_packEnd, 0, 0, f_entry, f_number, 0, a_schema, a_callId, a_callState, a_deadline, a_callRoot, a_placeOf, a_wheel, a_wheelEnd, a_later, a_sooner, a_done, a_next, a_first, a_last, a_fieldOf, a_val, a_endAt, a_typeOf, a_cellOf)) :
    wpX_nextEntry post (f_begun, f_opened, f_waiting, f_time, f_completions, f_dropped, f_free, f_state, f_taken, f_fault, f_frameCall, nI s, nI stk.length, f_packEnd, f_shift, f_need, f_entry, f_number, f_acc, a_schema, a_callId, a_callState, a_deadline, a_callRoot, a_placeOf, a_wheel, a_wheelEnd, a_later, a_sooner, a_done, a_next, a_first, a_last, a_fieldOf, a_val, a_endAt, a_typeOf, a_cellOf) := ⟨stk.length + 1, fx_nextL hs hz hQ K t h q⟩
theorem fx_limN {post : Int32 → Prop} {e ty pa : Nat} {r : fb_Stk} (h : fx_St a_endAt a_typeOf ((e, ty, pa) :: r)) (hr : r.length ≤ 2) (K : post (nI e)) : wpX_limit post (f_begun, f_opened, f_waiting, f_time, f_completions, f_dropped, f_free, f_state, f_taken, f_fault, f_frameCall, f_at, nI (r.length + 1), -1, f_shift, f_need, f_entry, f_number, f_acc, a_schema, a_callId, a_callState, a_deadline, a_callRoot, a_placeOf, a_wheel, a_wheelEnd, a_later, a_sooner, a_done, a_next, a_first, a_last, a_fieldOf, a_val, a_endAt, a_typeOf, a_cellOf) := by
  refine br_t fa_m1l (And.intro (vp_in_nI (by omega) (by decide)) ?_)
  rw [nI_clamp (by omega), h.1]
  exact K
theorem fx_limP {post : Int32 → Prop} {p : Nat} (hp : p < 2 ^ 31) (K : post (nI p)) : wpX_limit post (f_begun, f_opened, f_waiting, f_time, f_completions, f_dropped, f_free, f_state, f_taken, f_fault, f_frameCall, f_at, f_level, nI p, f_shift, f_need, f_entry, f_number, f_acc, a_schema, a_callId, a_callState, a_deadline, a_callRoot, a_placeOf, a_wheel, a_wheelEnd, a_later, a_sooner, a_done, a_next, a_first, a_last, a_fieldOf, a_val, a_endAt, a_typeOf, a_cellOf) := br_f (nI_pos hp) K
theorem fx_elem {post : SX → Prop} {Q : fb_Stk → Prop} {s pe en f : Nat} {stk : fb_Stk} (hs : fb_Sc sch) (hz : sz ≤ 60) (hQ : ∀ x r, Q (x :: r) → Q r) (t : fb_Tr sch B sz s stk (some (pe, en, f)) C) (h : fx_St a_endAt a_typeOf stk) (q : Q stk) (he : 1 ≤ en) (he2 : en ≤ 28)
    (K : ∀ stk', fb_Tr sch B sz s stk' none C → fx_St a_endAt a_typeOf stk' → Q stk' → (∀ e ty pa r, stk' = (e, ty, pa) :: r → s < e) → post (f_begun, f_opened, f_waiting, f_time, f_completions, f_dropped, f_free, 2, f_taken, f_fault, f_frameCall, nI s, nI stk'.length, -1, 0, 0, nI en, f_number, 0, a_schema, a_callId, a_callState, a_deadline, a_callRoot, a_placeOf, a_wheel, a_wheelEnd, a_later, a_sooner, a_done, a_next, a_first, a_last, a_fieldOf, a_val, a_endAt, a_typeOf, a_cellOf))
    (K3 : s < pe → (en - 1) / 4 = 3 → post (f_begun, f_opened, f_waiting, f_time, f_completions, f_dropped, f_free, 4, f_taken, f_fault, f_frameCall, nI s, nI stk.length, nI pe, 0, 4, nI en, f_number, 0, a_schema, a_callId, a_callState, a_deadline, a_callRoot, a_placeOf, a_wheel, a_wheelEnd, a_later, a_sooner, a_done, a_next, a_first, a_last, a_fieldOf, a_val, a_endAt, a_typeOf, a_cellOf))
    (K5 : s < pe → (en - 1) / 4 = 5 → post (f_begun, f_opened, f_waiting, f_time, f_completions, f_dropped, f_free, 4, f_taken, f_fault, f_frameCall, nI s, nI stk.length, nI pe, 0, 8, nI en, f_number, 0, a_schema, a_callId, a_callState, a_deadline, a_callRoot, a_placeOf, a_wheel, a_wheelEnd, a_later, a_sooner, a_done, a_next, a_first, a_last, a_fieldOf, a_val, a_endAt, a_typeOf, a_cellOf))
    (KN : s < pe → (en - 1) / 4 ≠ 3 → (en - 1) / 4 ≠ 5 → post (f_begun, f_opened, f_waiting, f_time, f_completions, f_dropped, f_free, 3, f_taken, f_fault, f_frameCall, nI s, nI stk.length, nI pe, 0, 0, nI en, f_number, 0, a_schema, a_callId, a_callState, a_deadline, a_callRoot, a_placeOf, a_wheel, a_wheelEnd, a_later, a_sooner, a_done, a_next, a_first, a_last, a_fieldOf, a_val, a_endAt, a_typeOf, a_cellOf)) :
    wpX_element post (f_begun, f_opened, f_waiting, f_time, f_completions, f_dropped, f_free, f_state, f_taken, f_fault, f_frameCall, nI s, nI stk.length, nI pe, f_shift, f_need, nI en, f_number, f_acc, a_schema, a_callId, a_callState, a_deadline, a_callRoot, a_placeOf, a_wheel, a_wheelEnd, a_later, a_sooner, a_done, a_next, a_first, a_last, a_fieldOf, a_val, a_endAt, a_typeOf, a_cellOf) := by
  obtain ⟨e, ty, pa, r, rfl, w1, w2, _⟩ := (fb_W hs t).2 pe en f rfl
  obtain ⟨u1, u2, u3, u4, u5⟩ := fb_WStop (fb_W hs t).1
  refine pk_eq s pe (fun hse => ?_) (fun hse => nm_r (fa_e2 he (by omega)) (pk_eq ((en - 1) / 4) 3 (fun h3 => K3 (by omega) h3) (fun h3 => pk_eq ((en - 1) / 4) 5 (fun h5 => K5 (by omega) h5) (fun h5 => KN (by omega) h3 h5))))
  subst hse
  exact fx_next (f_packEnd := -1) hs hz hQ ((fb_TrC sch B sz).2.2.1 _ _ _ _ _ t) h q K
theorem fx_fits9 {post : Int32 → Prop} {k w : Nat} (hw : w < 8) (hk : k < 1000) (K1 : w = 0 ∨ (w = 2 ∧ k % 2 = 1) → post 1) (K0 : ¬ (w = 0 ∨ (w = 2 ∧ k % 2 = 1)) → post 0) : wX_fits_89 post (nI k) (nI w) := by
  have e1 : nI k &&& 1 = nI (k % 2) := pk_andN (by omega) 1 (by decide)
  refine pk_eq w 0 (fun h => K1 (Or.inl h)) (fun h => pk_eq w 2 (fun h2 => ?_) (fun h2 => K0 (by omega)))
  rw [e1]
  exact pk_eq (k % 2) 1 (fun h3 => K1 (Or.inr ⟨h2, h3⟩)) (fun h3 => K0 (by omega))
theorem fx_fits {post : Int32 → Prop} {en w : Nat} (hw : w < 8) (he : 1 ≤ en) (he2 : en ≤ 28) (K1 : w = fb_wk ((en - 1) / 4) ∨ (w = 2 ∧ (en - 1) % 2 = 1) → post 1) (K0 : ¬ (w = fb_wk ((en - 1) / 4) ∨ (w = 2 ∧ (en - 1) % 2 = 1)) → post 0) : wpX_fits post (nI en - 1) (nI w) := by
  have e0 : nI en - 1 = nI (en - 1) := pk_sub (b := 1) he
  have e1 : nI (en - 1) &&& 1 = nI ((en - 1) % 2) := pk_andN (by omega) 1 (by decide)
  have e2 : nI (en - 1) >>> ((2 : Int32) &&& 31) = nI ((en - 1) / 4) := pk_shrN (by omega) _ 2 (by decide)
  rw [e0]
  have k0 : ∀ k, (en - 1) / 4 = k → k ≠ 3 → k ≠ 5 → k ≠ 6 → wX_fits_89 post (nI (en - 1)) (nI w) := by
    intro k hk h3 h5 h6
    have ew : fb_wk k = 0 := by unfold fb_wk; rw [if_neg h3, if_neg h5, if_neg h6]
    rw [hk, ew] at K1 K0
    exact fx_fits9 hw (by omega) K1 K0
  refine nm_r e2 (pk_lt ((en - 1) / 4) 3 (fun h => k0 _ rfl (by omega) (by omega) (by omega)) (fun h => pk_lt 6 ((en - 1) / 4) (fun h6 => absurd h6 (by omega)) (fun h6 => ?_)))
  refine pk_eq ((en - 1) / 4) 3 (fun h3 => ?_) (fun h3 => pk_eq ((en - 1) / 4) 4 (fun h4 => k0 _ rfl (by omega) (by omega) (by omega)) (fun h4 => pk_eq ((en - 1) / 4) 5 (fun h5 => ?_) (fun h5 => pk_eq ((en - 1) / 4) 6 (fun h6 => ?_) (fun h6 => trivial))))
  · rw [h3] at K1 K0
    have ew : fb_wk 3 = 5 := rfl
    rw [ew] at K1 K0
    refine pk_eq w 5 (fun a => K1 (Or.inl a)) (fun a => pk_eq w 2 (fun b => ?_) (fun b => K0 (by omega)))
    rw [e1]
    exact pk_eq ((en - 1) % 2) 1 (fun c => K1 (Or.inr ⟨b, c⟩)) (fun c => K0 (by omega))
  · rw [h5] at K1 K0
    have ew : fb_wk 5 = 1 := rfl
    rw [ew] at K1 K0
    refine pk_eq w 1 (fun a => K1 (Or.inl a)) (fun a => pk_eq w 2 (fun b => ?_) (fun b => K0 (by omega)))
    rw [e1]
    exact pk_eq ((en - 1) % 2) 1 (fun c => K1 (Or.inr ⟨b, c⟩)) (fun c => K0 (by omega))
  · rw [h6] at K1 K0
    have ew : fb_wk 6 = 2 := rfl
    rw [ew] at K1 K0
    exact pk_eq w 2 (fun a => K1 (Or.inl a)) (fun a => K0 (by omega))
end
end
section
/-! a key, a count: the component -/
def fx_K0 (post : Int32 → SX → Prop) (f_begun : Int32) (f_opened : Int32) (f_waiting : Int32) (f_time : Int32) (f_completions : Int32) (f_dropped : Int32) (f_taken : Int32) (f_fault : Int32) (f_frameCall : Int32) (a_schema : Nat → Int32) (a_callId : Nat → Int32) (a_callState : Nat → Int32) (a_deadline : Nat → Int32) (a_callRoot : Nat → Int32) (a_placeOf : Nat → Int32) (a_wheel : Nat → Int32) (a_wheelEnd : Nat → Int32) (a_later : Nat → Int32) (a_sooner : Nat → Int32) (a_done : Nat → Int32) (sch : Nat → Nat) (B : Nat → Int32) (sz at' : Nat) (PL : Nat → List Nat) (rt : Nat → Nat) (CC : Nat → fb_Con) : Prop :=
  ∀ (s' : Nat) (stk' : fb_Stk) (pk' : Option (Nat × Nat × Nat)) (C' : fb_Con) (st lv pe sh nd en nu : Int32) (ac : Int64) (ea ta ce nx fi la fo : Nat → Int32) (va : Nat → Int64) (fr : Int32) (kd : Nat → List Nat) (Fl : List Nat) (PL' : Nat → List Nat),
    fx_Fm sch B sz (at' + 1) s' stk' pk' C' st lv pe sh nd en nu ac ea ta → fx_Hs nx fi la fo va fr ce kd Fl PL' rt (fh_cc CC C') (at' + 1) stk' → (∀ j, j < 6 → PL' j = PL j) → ta 1 = 0 → fy_Ck sch B sz (at' + 1) 0 →
    post 0 (f_begun, f_opened, f_waiting, f_time, f_completions, f_dropped, fr, st, f_taken, f_fault, f_frameCall, nI (at' + 1), lv, pe, sh, nd, en, nu, ac, a_schema, a_callId, a_callState, a_deadline, a_callRoot, a_placeOf, a_wheel, a_wheelEnd, a_later, a_sooner, a_done, nx, fi, la, fo, va, ea, ta, ce)
def fx_Kf (post : Int32 → SX → Prop) (f_begun : Int32) (f_opened : Int32) (f_waiting : Int32) (f_time : Int32) (f_completions : Int32) (f_dropped : Int32) (f_taken : Int32) (f_fault : Int32) (f_frameCall : Int32) (a_schema : Nat → Int32) (a_callId : Nat → Int32) (a_callState : Nat → Int32) (a_deadline : Nat → Int32) (a_callRoot : Nat → Int32) (a_placeOf : Nat → Int32) (a_wheel : Nat → Int32) (a_wheelEnd : Nat → Int32) (a_later : Nat → Int32) (a_sooner : Nat → Int32) (a_done : Nat → Int32) (f_free : Int32) (a_next : Nat → Int32) (a_first : Nat → Int32) (a_last : Nat → Int32) (a_fieldOf : Nat → Int32) (a_val : Nat → Int64) (a_endAt : Nat → Int32) (a_typeOf : Nat → Int32) (a_cellOf : Nat → Int32) (sch : Nat → Nat) (B : Nat → Int32) (sz at' : Nat) : Prop :=
  ∀ (f : Nat) (st lv pe sh nd en nu : Int32) (ac : Int64), 1 ≤ f → f ≤ 5 → ¬ st < 2 → fy_Ck sch B sz (at' + 1) (nI f) →
    post (nI f) (f_begun, f_opened, f_waiting, f_time, f_completions, f_dropped, f_free, st, f_taken, f_fault, f_frameCall, nI (at' + 1), lv, pe, sh, nd, en, nu, ac, a_schema, a_callId, a_callState, a_deadline, a_callRoot, a_placeOf, a_wheel, a_wheelEnd, a_later, a_sooner, a_done, a_next, a_first, a_last, a_fieldOf, a_val, a_endAt, a_typeOf, a_cellOf)
section
variable {f_begun f_opened f_waiting f_time f_completions f_dropped f_free f_state f_taken f_fault f_frameCall f_at f_level f_packEnd f_shift f_need f_entry f_number : Int32} {f_acc : Int64} {a_schema a_callId a_callState a_deadline a_callRoot a_placeOf a_wheel a_wheelEnd a_later a_sooner a_done a_next a_first a_last a_fieldOf : Nat → Int32} {a_val : Nat → Int64} {a_endAt a_typeOf a_cellOf : Nat → Int32} {sch : Nat → Nat} {B : Nat → Int32} {sz at' : Nat} {kd : Nat → List Nat} {Fl : List Nat} {PL : Nat → List Nat} {rt : Nat → Nat} {CC : Nat → fb_Con}
/-- an entry has ended: the next one, or the frame's end -/
theorem fx_fin {post : Int32 → SX → Prop} {C' : fb_Con} {PL' : Nat → List Nat} {en nu : Int32} (K0 : fx_K0 post f_begun f_opened f_waiting f_time f_completions f_dropped f_taken f_fault f_frameCall a_schema a_callId a_callState a_deadline a_callRoot a_placeOf a_wheel a_wheelEnd a_later a_sooner a_done sch B sz at' PL rt CC)
    (hR : fh_HR a_next a_first a_last a_fieldOf a_val f_free kd Fl PL' rt (fh_cc CC C')) (h6 : PL' 6 ≠ []) (hl : (PL' 6).length ≤ at' + 2) (hc1 : a_cellOf 1 = nI (rt 6)) (hj : ∀ j, j < 6 → PL' j = PL j) (hta : a_typeOf 1 = 0) (hck : fy_Ck sch B sz (at' + 1) 0) :
    ∀ stk', fb_Tr sch B sz (at' + 1) stk' none C' → fx_St a_endAt a_typeOf stk' → fx_Ce a_cellOf kd a_fieldOf (rt 6) stk' → (∀ e ty pa r, stk' = (e, ty, pa) :: r → at' + 1 < e) → post 0 (f_begun, f_opened, f_waiting, f_time, f_completions, f_dropped, f_free, 2, f_taken, f_fault, f_frameCall, nI (at' + 1), nI stk'.length, -1, 0, 0, en, nu, 0, a_schema, a_callId, a_callState, a_deadline, a_callRoot, a_placeOf, a_wheel, a_wheelEnd, a_later, a_sooner, a_done, a_next, a_first, a_last, a_fieldOf, a_val, a_endAt, a_typeOf, a_cellOf) := by
  intro stk' t hs hc hlt
  refine K0 (at' + 1) stk' none C' 2 _ (-1) 0 0 en nu 0 _ _ _ _ _ _ _ _ _ kd Fl PL' ⟨t, rfl, hs, ?_⟩ ⟨hR, h6, hl, hc, hc1⟩ hj hta hck
  match stk', hlt with
  | [], _ => exact Or.inl ⟨rfl, rfl, rfl, rfl⟩
  | (e, ty, pa) :: r, hlt =>
    have := hlt e ty pa r rfl
    exact Or.inr ⟨e, ty, pa, r, rfl, Or.inl ⟨rfl, rfl, rfl, 0, rfl, this, rfl, by decide, fun j hj => absurd hj (by omega), rfl⟩⟩
theorem fx_k88 {post : Int32 → SX → Prop} {w : Nat} {x3 z0 : Int32} (hw : w < 8) (K : wX_key_112 post (nI w) (nI (fb_le w)) x3 f_begun f_opened f_waiting f_time f_completions f_dropped f_free f_state f_taken f_fault f_frameCall f_at f_level f_packEnd f_shift f_need z0 f_number f_acc a_schema a_callId a_callState a_deadline a_callRoot a_placeOf a_wheel a_wheelEnd a_later a_sooner a_done a_next a_first a_last a_fieldOf a_val a_endAt a_typeOf a_cellOf) : wX_key_88 post (nI w) x3 z0 f_begun f_opened f_waiting f_time f_completions f_dropped f_free f_state f_taken f_fault f_frameCall f_at f_level f_packEnd f_shift f_need f_entry f_number f_acc a_schema a_callId a_callState a_deadline a_callRoot a_placeOf a_wheel a_wheelEnd a_later a_sooner a_done a_next a_first a_last a_fieldOf a_val a_endAt a_typeOf a_cellOf := by
  unfold fb_le at K
  refine pk_eq w 1 (fun h => ?_) (fun h => pk_eq w 5 (fun h5 => ?_) (fun h5 => ?_))
  · rw [if_neg (by omega), if_pos h] at K; exact K
  · rw [if_pos h5] at K; exact K
  · rw [if_neg h5, if_neg h] at K; exact K
theorem fx_k112 {post : Int32 → SX → Prop} {w d en : Nat} (hw : w < 8) (hd : d < 1000) (he : en ≤ 28) (Ks : d < fb_le w → post 4 (f_begun, f_opened, f_waiting, f_time, f_completions, f_dropped, f_free, f_state, f_taken, f_fault, f_frameCall, f_at, f_level, f_packEnd, f_shift, f_need, nI en, f_number, f_acc, a_schema, a_callId, a_callState, a_deadline, a_callRoot, a_placeOf, a_wheel, a_wheelEnd, a_later, a_sooner, a_done, a_next, a_first, a_last, a_fieldOf, a_val, a_endAt, a_typeOf, a_cellOf)) (K : fb_le w ≤ d → wX_key_142 post (nI w) f_begun f_opened f_waiting f_time f_completions f_dropped f_free f_state f_taken f_fault f_frameCall f_at f_level f_packEnd f_shift f_need (nI (fb_kn en w)) f_number f_acc a_schema a_callId a_callState a_deadline a_callRoot a_placeOf a_wheel a_wheelEnd a_later a_sooner a_done a_next a_first a_last a_fieldOf a_val a_endAt a_typeOf a_cellOf) : wX_key_112 post (nI w) (nI (fb_le w)) (nI d) f_begun f_opened f_waiting f_time f_completions f_dropped f_free f_state f_taken f_fault f_frameCall f_at f_level f_packEnd f_shift f_need (nI en) f_number f_acc a_schema a_callId a_callState a_deadline a_callRoot a_placeOf a_wheel a_wheelEnd a_later a_sooner a_done a_next a_first a_last a_fieldOf a_val a_endAt a_typeOf a_cellOf := by
  have hl := fb_le1 w
  refine pk_le (fb_le w) d (fun h => ?_) (fun h => Ks h)
  have K := K h
  by_cases h0 : en = 0
  · subst h0
    refine br_t rfl ?_
    have e : fb_kn 0 w = 0 := if_neg (fun z => z.1 rfl)
    rw [e] at K
    exact K
  · refine br_f (nI_ne0 (by omega) (by omega)) (fx_fits hw (by omega) he (fun h1 => ?_) (fun h1 => ?_))
    · refine br_f (by decide) ?_
      have e : fb_kn en w = en := if_pos ⟨h0, h1⟩
      rw [e] at K
      exact K
    · refine br_t rfl ?_
      have e : fb_kn en w = 0 := if_neg (fun z => h1 z.2)
      rw [e] at K
      exact K
theorem fx_k142 {post : Int32 → SX → Prop} {w en : Nat} (hw : w = 0 ∨ w = 1 ∨ w = 2 ∨ w = 5) (he : en ≤ 28)
    (K0 : w = 0 → post 0 (f_begun, f_opened, f_waiting, f_time, f_completions, f_dropped, f_free, 3, f_taken, f_fault, f_frameCall, f_at, f_level, f_packEnd, 0, 0, nI en, f_number, 0, a_schema, a_callId, a_callState, a_deadline, a_callRoot, a_placeOf, a_wheel, a_wheelEnd, a_later, a_sooner, a_done, a_next, a_first, a_last, a_fieldOf, a_val, a_endAt, a_typeOf, a_cellOf))
    (K2 : w = 2 → post 0 (f_begun, f_opened, f_waiting, f_time, f_completions, f_dropped, f_free, 5, f_taken, f_fault, f_frameCall, f_at, f_level, f_packEnd, 0, 0, nI en, f_number, 0, a_schema, a_callId, a_callState, a_deadline, a_callRoot, a_placeOf, a_wheel, a_wheelEnd, a_later, a_sooner, a_done, a_next, a_first, a_last, a_fieldOf, a_val, a_endAt, a_typeOf, a_cellOf))
    (KS : (w = 1 ∨ w = 5) → en = 0 → post 0 (f_begun, f_opened, f_waiting, f_time, f_completions, f_dropped, f_free, 6, f_taken, f_fault, f_frameCall, f_at, f_level, f_packEnd, 0, nI (fb_le w), nI en, f_number, 0, a_schema, a_callId, a_callState, a_deadline, a_callRoot, a_placeOf, a_wheel, a_wheelEnd, a_later, a_sooner, a_done, a_next, a_first, a_last, a_fieldOf, a_val, a_endAt, a_typeOf, a_cellOf))
    (KB : (w = 1 ∨ w = 5) → en ≠ 0 → post 0 (f_begun, f_opened, f_waiting, f_time, f_completions, f_dropped, f_free, 4, f_taken, f_fault, f_frameCall, f_at, f_level, f_packEnd, 0, nI (fb_le w), nI en, f_number, 0, a_schema, a_callId, a_callState, a_deadline, a_callRoot, a_placeOf, a_wheel, a_wheelEnd, a_later, a_sooner, a_done, a_next, a_first, a_last, a_fieldOf, a_val, a_endAt, a_typeOf, a_cellOf)) : wX_key_142 post (nI w) f_begun f_opened f_waiting f_time f_completions f_dropped f_free f_state f_taken f_fault f_frameCall f_at f_level f_packEnd f_shift f_need (nI en) f_number f_acc a_schema a_callId a_callState a_deadline a_callRoot a_placeOf a_wheel a_wheelEnd a_later a_sooner a_done a_next a_first a_last a_fieldOf a_val a_endAt a_typeOf a_cellOf := by
  refine pk_eq w 0 (fun h => K0 h) (fun h => pk_eq w 2 (fun h2 => K2 h2) (fun h2 => pk_eq en 0 (fun hz => pk_eq w 1 (fun h1 => ?_) (fun h1 => ?_)) (fun hz => pk_eq w 1 (fun h1 => ?_) (fun h1 => ?_))))
  · have K := KS (by omega) hz; subst h1; exact K
  · have h5 : w = 5 := by omega
    have K := KS (by omega) hz; subst h5; exact K
  · have K := KB (by omega) hz; subst h1; exact K
  · have h5 : w = 5 := by omega
    have K := KB (by omega) hz; subst h5; exact K
theorem fx_key {post : Int32 → SX → Prop} {s e ty pa : Nat} {r : fb_Stk} {a : Int64} (hs : fb_Sc sch) (hz : sz ≤ 60) (hsch : ∀ i, i < 64 → a_schema i = nI (sch i)) (hL : at' + 1 ≤ sz) (t : fb_Tr sch B sz s ((e, ty, pa) :: r) none (CC 6)) (hv : fb_Vr B s e (at' + 1) a) (hse : s < e)
    (hSt : fx_St a_endAt a_typeOf ((e, ty, pa) :: r)) (hH : fx_Hs a_next a_first a_last a_fieldOf a_val f_free a_cellOf kd Fl PL rt CC at' ((e, ty, pa) :: r)) (hta : a_typeOf 1 = 0)
    (K0 : fx_K0 post f_begun f_opened f_waiting f_time f_completions f_dropped f_taken f_fault f_frameCall a_schema a_callId a_callState a_deadline a_callRoot a_placeOf a_wheel a_wheelEnd a_later a_sooner a_done sch B sz at' PL rt CC) (Kf : fx_Kf post f_begun f_opened f_waiting f_time f_completions f_dropped f_taken f_fault f_frameCall a_schema a_callId a_callState a_deadline a_callRoot a_placeOf a_wheel a_wheelEnd a_later a_sooner a_done f_free a_next a_first a_last a_fieldOf a_val a_endAt a_typeOf a_cellOf sch B sz at') : wpX_key post (f_begun, f_opened, f_waiting, f_time, f_completions, f_dropped, f_free, 2, f_taken, f_fault, f_frameCall, nI (at' + 1), nI (r.length + 1), -1, f_shift, f_need, f_entry, f_number, a, a_schema, a_callId, a_callState, a_deadline, a_callRoot, a_placeOf, a_wheel, a_wheelEnd, a_later, a_sooner, a_done, a_next, a_first, a_last, a_fieldOf, a_val, a_endAt, a_typeOf, a_cellOf) := by
  obtain ⟨u1, u2, u3, u4, u5⟩ := fb_WStop (fb_W hs t).1
  have hle := fb_VrL hv
  have hf := fb_flt a
  have hw := fb_wlt a
  have hll := fb_le1 (fb_w a)
  have tag : fb_f a = 0 ∨ ¬ (fb_w a = 0 ∨ fb_w a = 1 ∨ fb_w a = 2 ∨ fb_w a = 5) → ∀ lv pe sh nd en nu ac, post 2 (f_begun, f_opened, f_waiting, f_time, f_completions, f_dropped, f_free, 2, f_taken, f_fault, f_frameCall, nI (at' + 1), lv, pe, sh, nd, en, nu, ac, a_schema, a_callId, a_callState, a_deadline, a_callRoot, a_placeOf, a_wheel, a_wheelEnd, a_later, a_sooner, a_done, a_next, a_first, a_last, a_fieldOf, a_val, a_endAt, a_typeOf, a_cellOf) :=
    fun h lv pe sh nd en nu ac => Kf 2 2 lv pe sh nd en nu ac (by decide) (by decide) (by decide) (fy_o2 hs t hL hz hse hv h)
  have main : fb_f a ≠ 0 → (fb_w a = 0 ∨ fb_w a = 1 ∨ fb_w a = 2 ∨ fb_w a = 5) → ∀ en0, en0 ≤ 28 → fb_kn en0 (fb_w a) = fb_ky sch ty a → wX_key_88 post (nI (fb_w a)) (nI (e - (at' + 1))) (nI en0) f_begun f_opened f_waiting f_time f_completions f_dropped f_free 2 f_taken f_fault f_frameCall (nI (at' + 1)) (nI (r.length + 1)) (-1) f_shift f_need f_entry (nI (fb_f a)) a a_schema a_callId a_callState a_deadline a_callRoot a_placeOf a_wheel a_wheelEnd a_later a_sooner a_done a_next a_first a_last a_fieldOf a_val a_endAt a_typeOf a_cellOf := by
    intro h0 hw4 en0 he0 hk
    refine fx_k88 hw (fx_k112 hw (by omega) he0 (fun hd => ?_) (fun hd => ?_))
    · exact Kf 4 2 _ _ _ _ _ _ _ (by decide) (by decide) (by decide) (fy_o3 hs t hL hz hse hv h0 hw4 (by omega))
    · have key : fb_Key B s e (at' + 1) a := ⟨hse, hv, h0, hw4, by omega⟩
      have hck := fy_o5 hs t hL hz key
      have hky : fb_ky sch ty a ≤ 28 := by
        rw [← hk]; unfold fb_kn; split <;> omega
      have hH' : fx_Hs a_next a_first a_last a_fieldOf a_val f_free a_cellOf kd Fl PL rt (fh_cc CC (CC 6)) (at' + 1) ((e, ty, pa) :: r) := by
        rw [fh_ccE]
        exact ⟨hH.1, hH.2.1, by have := hH.2.2.1; omega, hH.2.2.2⟩
      rw [hk]
      refine fx_k142 hw4 hky (fun h => ?_) (fun h => ?_) (fun h hz0 => ?_) (fun h hz0 => ?_)
      · refine K0 s ((e, ty, pa) :: r) none (CC 6) 3 _ (-1) 0 0 _ _ 0 _ _ _ _ _ _ _ _ _ kd Fl PL ⟨t, rfl, hSt, ?_⟩ hH' (fun _ _ => rfl) hta hck
        exact Or.inr ⟨e, ty, pa, r, rfl, Or.inr (Or.inl ⟨rfl, rfl, at' + 1, a, key, rfl, rfl, Or.inl ⟨0, Or.inl ⟨rfl, h⟩, rfl, (fb_KeyL key).2, rfl, by decide, fun j hj => absurd hj (by omega), rfl⟩⟩)⟩
      · refine K0 s ((e, ty, pa) :: r) none (CC 6) 5 _ (-1) 0 0 _ _ 0 _ _ _ _ _ _ _ _ _ kd Fl PL ⟨t, rfl, hSt, ?_⟩ hH' (fun _ _ => rfl) hta hck
        exact Or.inr ⟨e, ty, pa, r, rfl, Or.inr (Or.inl ⟨rfl, rfl, at' + 1, a, key, rfl, rfl, Or.inl ⟨0, Or.inr ⟨rfl, h⟩, rfl, (fb_KeyL key).2, rfl, by decide, fun j hj => absurd hj (by omega), rfl⟩⟩)⟩
      · refine K0 s ((e, ty, pa) :: r) none (CC 6) 6 _ (-1) 0 _ _ _ 0 _ _ _ _ _ _ _ _ _ kd Fl PL ⟨t, rfl, hSt, ?_⟩ hH' (fun _ _ => rfl) hta hck
        exact Or.inr ⟨e, ty, pa, r, rfl, Or.inr (Or.inl ⟨rfl, rfl, at' + 1, a, key, rfl, rfl, Or.inr (Or.inr ⟨fb_le (fb_w a), rfl, hz0, by omega, rfl, Or.inl ⟨h, Nat.le_refl _, rfl⟩⟩)⟩)⟩
      · refine K0 s ((e, ty, pa) :: r) none (CC 6) 4 _ (-1) 0 _ _ _ 0 _ _ _ _ _ _ _ _ _ kd Fl PL ⟨t, rfl, hSt, ?_⟩ hH' (fun _ _ => rfl) hta hck
        exact Or.inr ⟨e, ty, pa, r, rfl, Or.inr (Or.inl ⟨rfl, rfl, at' + 1, a, key, rfl, rfl, Or.inr (Or.inl ⟨0, rfl, h, hz0, rfl, by omega, rfl, rfl, rfl⟩)⟩)⟩
  refine nm_r (fb_wE a) (fx_limN hSt u5 (nm_r (pk_sub hle.2.1) (nm_r (fb_fE a) ?_)))
  refine pk_eq (fb_f a) 0 (fun h0 => tag (Or.inl h0) _ _ _ _ _ _ _) (fun h0 => pk_lt 5 (fb_w a) (fun h => tag (Or.inr (by omega)) _ _ _ _ _ _ _) (fun h5 => pk_eq (fb_w a) 3 (fun h => tag (Or.inr (by omega)) _ _ _ _ _ _ _) (fun n3 => pk_eq (fb_w a) 4 (fun h => tag (Or.inr (by omega)) _ _ _ _ _ _ _) (fun n4 => ?_))))
  refine pk_le (fb_f a) 15 (fun h15 => ?_) (fun h15 => ?_)
  · have eT : a_typeOf (nI (r.length + 1)).toNatClampNeg = nI ty := by rw [nI_clamp (by omega)]; exact hSt.2.1
    have eI : nI ty * 16 + nI (fb_f a) = nI (ty * 16 + fb_f a) := by rw [show nI ty * 16 = nI (ty * 16) from pk_mul ty 16, nI_add]
    refine And.intro (vp_in_nI (by omega) (by decide)) ?_
    rw [eT, eI, nI_clamp (by omega), hsch _ (by omega)]
    refine And.intro (vp_in_nI (by omega) (by decide)) ?_
    refine main h0 (by omega) _ (hs _).1 ?_
    unfold fb_ky; rw [if_pos h15]
  · refine main h0 (by omega) 0 (by omega) ?_
    unfold fb_ky
    rw [if_neg (by omega)]
    exact if_neg (fun z => z.1 rfl)
end
end
section
/-! a count: the component -/
theorem fx_AtK {kd : Nat → List Nat} {fo : Nat → Int32} {rt q m x f : Nat} (h : fh_At kd fo rt q m) (hq : q < 16) (hx : x ∈ kd m) (hf : fo x = nI f) (h1 : 1 ≤ f) (h2 : f ≤ 15) : fh_At kd fo rt (q * 16 + f) x := by
  rcases h with ⟨h0, rfl⟩ | ⟨a1, a2, a3, a4⟩ | ⟨c, f', g, a0, a1, _⟩
  · subst h0
    rw [Nat.zero_mul, Nat.zero_add]
    exact Or.inr (Or.inl ⟨h1, h2, hx, hf⟩)
  · exact Or.inr (Or.inr ⟨m, q, f, rfl, a1, a2, h1, h2, a3, a4, hx, hf⟩)
  · omega
theorem fb_WSq {sch : Nat → Nat} {sz s e ty pa : Nat} {r : fb_Stk} (h : fb_WS sch sz s ((e, ty, pa) :: r)) (hr : r.length < 2) : pa < 16 := by
  rcases h with ⟨h, _⟩ | ⟨h, _⟩ | ⟨e1, t1, f1, h, h1, h3, h4⟩ | ⟨e2, t2, g, e1, t1, f, h, h1, h2, h3, h4, h5⟩
  · cases h
  · cases h; decide
  · cases h; obtain ⟨a1, a2, _⟩ := h4; omega
  · cases h; exact absurd hr (by simp)
section
variable {f_begun f_opened f_waiting f_time f_completions f_dropped f_free f_state f_taken f_fault f_frameCall f_at f_level f_packEnd f_shift f_need f_entry f_number : Int32} {f_acc : Int64} {a_schema a_callId a_callState a_deadline a_callRoot a_placeOf a_wheel a_wheelEnd a_later a_sooner a_done a_next a_first a_last a_fieldOf : Nat → Int32} {a_val : Nat → Int64} {a_endAt a_typeOf a_cellOf : Nat → Int32} {sch : Nat → Nat} {B : Nat → Int32} {sz at' : Nat} {kd : Nat → List Nat} {Fl : List Nat} {PL : Nat → List Nat} {rt : Nat → Nat} {CC : Nat → fb_Con}
/-- packed values: the next one, or what comes behind them -/
theorem fx_pel {post : Int32 → SX → Prop} {R : SX → Prop} {C' : fb_Con} {PL' : Nat → List Nat} {pe en f : Nat} {stk : fb_Stk} (hs : fb_Sc sch) (hz : sz ≤ 60) (K0 : fx_K0 post f_begun f_opened f_waiting f_time f_completions f_dropped f_taken f_fault f_frameCall a_schema a_callId a_callState a_deadline a_callRoot a_placeOf a_wheel a_wheelEnd a_later a_sooner a_done sch B sz at' PL rt CC) (hR : fh_HR a_next a_first a_last a_fieldOf a_val f_free kd Fl PL' rt (fh_cc CC C')) (h6 : PL' 6 ≠ []) (hl : (PL' 6).length ≤ at' + 2) (hc1 : a_cellOf 1 = nI (rt 6)) (hj : ∀ j, j < 6 → PL' j = PL j) (hta : a_typeOf 1 = 0) (hck : fy_Ck sch B sz (at' + 1) 0)
    (t : fb_Tr sch B sz (at' + 1) stk (some (pe, en, f)) C') (hSt : fx_St a_endAt a_typeOf stk) (hCe : fx_Ce a_cellOf kd a_fieldOf (rt 6) stk) (hR2 : ∀ st lv pe sh nd ac, post 0 (f_begun, f_opened, f_waiting, f_time, f_completions, f_dropped, f_free, st, f_taken, f_fault, f_frameCall, nI (at' + 1), lv, pe, sh, nd, nI en, nI f, ac, a_schema, a_callId, a_callState, a_deadline, a_callRoot, a_placeOf, a_wheel, a_wheelEnd, a_later, a_sooner, a_done, a_next, a_first, a_last, a_fieldOf, a_val, a_endAt, a_typeOf, a_cellOf) → R (f_begun, f_opened, f_waiting, f_time, f_completions, f_dropped, f_free, st, f_taken, f_fault, f_frameCall, nI (at' + 1), lv, pe, sh, nd, nI en, nI f, ac, a_schema, a_callId, a_callState, a_deadline, a_callRoot, a_placeOf, a_wheel, a_wheelEnd, a_later, a_sooner, a_done, a_next, a_first, a_last, a_fieldOf, a_val, a_endAt, a_typeOf, a_cellOf)) :
    wpX_element R (f_begun, f_opened, f_waiting, f_time, f_completions, f_dropped, f_free, f_state, f_taken, f_fault, f_frameCall, nI (at' + 1), nI stk.length, nI pe, f_shift, f_need, nI en, nI f, f_acc, a_schema, a_callId, a_callState, a_deadline, a_callRoot, a_placeOf, a_wheel, a_wheelEnd, a_later, a_sooner, a_done, a_next, a_first, a_last, a_fieldOf, a_val, a_endAt, a_typeOf, a_cellOf) := by
  obtain ⟨e, ty, pa, r, rfl, w1, w2, w3, w4, w5, w6, w7, w8, w9, w10⟩ := (fb_W hs t).2 pe en f rfl
  have he2 : en ≤ 28 := by rw [← w5]; exact (hs _).1
  refine fx_elem (Q := fx_Ce a_cellOf kd a_fieldOf (rt 6)) hs hz (fun x r h => h.2) t hSt hCe (by omega) he2 (fun stk' b1 b2 b3 b4 => hR2 _ _ _ _ _ _ (fx_fin K0 hR h6 hl hc1 hj hta hck stk' b1 b2 b3 b4)) (fun a1 a2 => hR2 _ _ _ _ _ _ ?_) (fun a1 a2 => hR2 _ _ _ _ _ _ ?_) (fun a1 a2 a3 => hR2 _ _ _ _ _ _ ?_)
  · refine K0 (at' + 1) ((e, ty, pa) :: r) _ C' 4 _ (nI pe) 0 4 (nI en) (nI f) 0 _ _ _ _ _ _ _ _ _ kd Fl PL' ⟨t, rfl, hSt, ?_⟩ ⟨hR, h6, hl, hCe, hc1⟩ hj hta hck
    exact Or.inr ⟨e, ty, pa, r, rfl, Or.inr (Or.inr ⟨pe, en, f, rfl, rfl, rfl, rfl, Or.inr ⟨0, 4, rfl, Or.inl ⟨a2, rfl⟩, rfl, by decide, by have := w9 a2; omega, rfl, rfl, rfl⟩⟩)⟩
  · refine K0 (at' + 1) ((e, ty, pa) :: r) _ C' 4 _ (nI pe) 0 8 (nI en) (nI f) 0 _ _ _ _ _ _ _ _ _ kd Fl PL' ⟨t, rfl, hSt, ?_⟩ ⟨hR, h6, hl, hCe, hc1⟩ hj hta hck
    exact Or.inr ⟨e, ty, pa, r, rfl, Or.inr (Or.inr ⟨pe, en, f, rfl, rfl, rfl, rfl, Or.inr ⟨0, 8, rfl, Or.inr ⟨a2, rfl⟩, rfl, by decide, by have := w10 a2; omega, rfl, rfl, rfl⟩⟩)⟩
  · refine K0 (at' + 1) ((e, ty, pa) :: r) _ C' 3 _ (nI pe) 0 0 (nI en) (nI f) 0 _ _ _ _ _ _ _ _ _ kd Fl PL' ⟨t, rfl, hSt, ?_⟩ ⟨hR, h6, hl, hCe, hc1⟩ hj hta hck
    exact Or.inr ⟨e, ty, pa, r, rfl, Or.inr (Or.inr ⟨pe, en, f, rfl, rfl, rfl, rfl, Or.inl ⟨0, rfl, a2, a3, rfl, a1, rfl, by decide, fun j hj => absurd hj (by omega), rfl⟩⟩)⟩
theorem fx_cnt {post : Int32 → SX → Prop} {s s1 e ty pa : Nat} {r : fb_Stk} {a b : Int64} (hs : fb_Sc sch) (hz : sz ≤ 60) (hL : at' + 1 ≤ sz) (t : fb_Tr sch B sz s ((e, ty, pa) :: r) none (CC 6)) (k : fb_Key B s e s1 a) (hw : fb_w a = 2) (hv : fb_Vr B s1 e (at' + 1) b)
    (hSt : fx_St a_endAt a_typeOf ((e, ty, pa) :: r)) (hH : fx_Hs a_next a_first a_last a_fieldOf a_val f_free a_cellOf kd Fl PL rt CC at' ((e, ty, pa) :: r)) (hta : a_typeOf 1 = 0)
    (K0 : fx_K0 post f_begun f_opened f_waiting f_time f_completions f_dropped f_taken f_fault f_frameCall a_schema a_callId a_callState a_deadline a_callRoot a_placeOf a_wheel a_wheelEnd a_later a_sooner a_done sch B sz at' PL rt CC) (Kf : fx_Kf post f_begun f_opened f_waiting f_time f_completions f_dropped f_taken f_fault f_frameCall a_schema a_callId a_callState a_deadline a_callRoot a_placeOf a_wheel a_wheelEnd a_later a_sooner a_done f_free a_next a_first a_last a_fieldOf a_val a_endAt a_typeOf a_cellOf sch B sz at') : wpX_counted post (f_begun, f_opened, f_waiting, f_time, f_completions, f_dropped, f_free, 5, f_taken, f_fault, f_frameCall, nI (at' + 1), nI (r.length + 1), -1, f_shift, f_need, nI (fb_ky sch ty a), nI (fb_f a), b, a_schema, a_callId, a_callState, a_deadline, a_callRoot, a_placeOf, a_wheel, a_wheelEnd, a_later, a_sooner, a_done, a_next, a_first, a_last, a_fieldOf, a_val, a_endAt, a_typeOf, a_cellOf) := by
  obtain ⟨u1, u2, u3, u4, u5⟩ := fb_WStop (fb_W hs t).1
  have hle := fb_VrL hv
  have hf := fb_flt a
  have T := fb_TrC sch B sz
  have l1 := fb_KeyL k
  obtain ⟨hR, h6, hl, hCe, hc1⟩ := hH
  have hRc : fh_HR a_next a_first a_last a_fieldOf a_val f_free kd Fl PL rt (fh_cc CC (CC 6)) := by rw [fh_ccE]; exact hR
  refine br_c (fun h0 => Kf 4 5 _ _ _ _ _ _ _ (by decide) (by decide) (by decide) (fy_o8 hs t hL hz k hw hv (Or.inl h0))) (fun h0 => fx_limN hSt u5 ?_)
  rw [pk_sub hle.2.1]
  refine br_c (fun hb => ?_) (fun hb => Kf 4 5 _ _ _ _ _ _ _ (by decide) (by decide) (by decide) (fy_o8 hs t hL hz k hw hv (Or.inr hb)))
  obtain ⟨m, hm, rfl⟩ := pk_lOf h0
  rw [nI_l (by omega), pk_lLE hm (by omega)] at hb
  rw [lN_i]
  by_cases hk0 : fb_ky sch ty a = 0
  · have hck := fy_o9 hs t hL hz k hw hv (by omega) (Nat.le_refl _) (by omega) (Or.inl hk0)
    refine nm_e ?_
    rw [hk0]
    refine br_t rfl (pk_eq m 0 (fun hm0 => ?_) (fun hm0 => ?_))
    · subst hm0
      have t' := T.2.2.2.1 _ _ _ _ _ _ _ _ (at' + 1) t k hk0 (by rw [hw]; exact Or.inr (Or.inr ⟨rfl, at' + 1, 0, hv, by omega, rfl⟩))
      exact fx_next (stk := (e, ty, pa) :: r) (Q := fx_Ce a_cellOf kd a_fieldOf (rt 6)) hs hz (fun x r h => h.2) t' hSt hCe (fun stk' b1 b2 b3 b4 => fx_fin K0 hRc h6 (by omega) hc1 (fun _ _ => rfl) hta hck stk' b1 b2 b3 b4)
    · refine K0 s ((e, ty, pa) :: r) none (CC 6) 6 _ (-1) 0 (nI m) _ _ 0 _ _ _ _ _ _ _ _ _ kd Fl PL ⟨t, rfl, hSt, ?_⟩ ⟨hRc, h6, by omega, hCe, hc1⟩ (fun _ _ => rfl) hta hck
      exact Or.inr ⟨e, ty, pa, r, rfl, Or.inr (Or.inl ⟨rfl, rfl, s1, a, k, by rw [hk0], rfl, Or.inr (Or.inr ⟨m, rfl, hk0, by omega, rfl, Or.inr ⟨hw, at' + 1, m, hv, by omega, Nat.le_refl _, rfl⟩⟩)⟩)⟩
  · obtain ⟨e1, e2, e3⟩ := fb_kyE hk0
    have hky : fb_ky sch ty a ≤ 28 := by rw [← e2]; exact (hs _).1
    have hf0 := k.2.2.1
    refine nm_r (fa_e2 (by omega) (by omega)) (br_f (nI_ne0 (by omega) (by omega)) (pk_eq ((fb_ky sch ty a - 1) / 4) 6 (fun k6 => pk_eq (r.length + 1) 3 (fun h3 => ?_) (fun h3 => ?_)) (fun k6 => ?_)))
    · exact Kf 5 5 _ _ _ _ _ _ _ (by decide) (by decide) (by decide) (fy_o10 hs t hL hz k hw hv (by omega) hk0 (Or.inr ⟨rfl, k6, by omega⟩))
    · have hr2 : r.length < 2 := by omega
      have hq := fb_WSq (fb_W hs t).1 hr2
      have hWC := fb_C hs t
      have hPT := (hWC.2.2.2 _ List.mem_cons_self).2
      obtain ⟨⟨mm, hce, hAt⟩, hCe2⟩ := hCe
      have hAt' : fh_At kd a_fieldOf (rt 6) pa mm := hAt
      have hpre := fh_HpQ hR.1 (by omega) h6
      have hu : ∀ x, fh_At kd a_fieldOf (rt 6) pa x → x = mm := fun x hx => fh_AtU hpre (fh_HpN hR.1 (by omega)) (hR.2.1 6 (by omega) h6) hWC.1 (fx_hq hWC hPT) hAt' hx
      have hck := fy_o11 hs t hL hz k hw hv (by omega) hk0 (by omega) (by omega) (fun _ => hr2)
      have t' := T.2.2.2.2.2.1 _ _ _ _ _ _ _ _ _ _ t k hw hk0 k6 hv (by omega) hr2
      refine fx_single (a := at' + 1) hR h6 hAt' hu (fun p hp => (hWC.1 _ p hp).2) (by omega) hce (by omega) e1 (fun hF hqq => fx_h0 hWC hPT (by omega) e1 (Or.inr hF) hqq) (by omega) hl ?_
      intro x nx' fi' la' fo' va' fr' kd' Fl' PL' A D k1 p k2 b1 b2 b3 b4 b5 b6 b7 b8 b9 b10 b11 b12
      have eL : (nI (r.length + 1 + 1)).toNatClampNeg = r.length + 2 := nI_clamp (by omega)
      have iL : vp_in (nI (r.length + 1 + 1)) 4 := vp_in_nI (by omega) (by decide)
      refine nm_r (nI_1 _) (And.intro iL (nm_r (e' := upd a_cellOf (r.length + 2) (nI x)) (by rw [eL, fa_ns (by omega)]) (And.intro iL (nm_r (e' := upd a_endAt (r.length + 2) (nI (at' + 1 + m))) (by rw [eL, nI_add, fa_nb (by omega)]) (And.intro iL (nm_r (e' := upd a_typeOf (r.length + 2) (nI ((fb_ky sch ty a - 1) % 4))) (by rw [eL, fa_e3 (by omega) (by omega), fa_nb (by omega)]) ?_))))))
      have hSt' : fx_St (upd a_endAt (r.length + 2) (nI (at' + 1 + m))) (upd a_typeOf (r.length + 2) (nI ((fb_ky sch ty a - 1) % 4))) ((at' + 1 + m, (fb_ky sch ty a - 1) % 4, pa * 16 + fb_f a) :: (e, ty, pa) :: r) :=
        ⟨pk_us, pk_us, fx_StU hSt (by simp)⟩
      have hCe' : fx_Ce (upd a_cellOf (r.length + 2) (nI x)) kd' fo' (rt 6) ((at' + 1 + m, (fb_ky sch ty a - 1) % 4, pa * 16 + fb_f a) :: (e, ty, pa) :: r) :=
        ⟨⟨x, pk_us, fx_AtK (b5 _ _ hAt') hq (by rw [b6]; simp) b11 (by omega) e1⟩, fx_CeU (fx_CeM b5 (r := (e, ty, pa) :: r) ⟨⟨mm, hce, hAt⟩, hCe2⟩) (by simp)⟩
      exact fx_next (f_packEnd := -1) (stk := (at' + 1 + m, (fb_ky sch ty a - 1) % 4, pa * 16 + fb_f a) :: (e, ty, pa) :: r) (Q := fx_Ce (upd a_cellOf (r.length + 2) (nI x)) kd' fo' (rt 6)) hs hz (fun x r h => h.2) t' hSt' hCe' (fun stk' c1 c2 c3 c4 => fx_fin K0 b1 b3 (by omega) ((pk_un (by omega)).trans hc1) b4 ((pk_un (by omega)).trans hta) hck stk' c1 c2 c3 c4)
    · have er4 : nI m - nI m / 4 * 4 = nI (m % 4) := pk_rem (d := 4) (by omega) (by decide) (by decide)
      have er8 : nI m - nI m / 8 * 8 = nI (m % 8) := pk_rem (d := 8) (by omega) (by decide) (by decide)
      have bad : ((fb_ky sch ty a - 1) / 4 = 3 ∧ m % 4 ≠ 0) ∨ ((fb_ky sch ty a - 1) / 4 = 5 ∧ m % 8 ≠ 0) → ∀ lv pe sh nd en nu ac, post 4 (f_begun, f_opened, f_waiting, f_time, f_completions, f_dropped, f_free, 5, f_taken, f_fault, f_frameCall, nI (at' + 1), lv, pe, sh, nd, en, nu, ac, a_schema, a_callId, a_callState, a_deadline, a_callRoot, a_placeOf, a_wheel, a_wheelEnd, a_later, a_sooner, a_done, a_next, a_first, a_last, a_fieldOf, a_val, a_endAt, a_typeOf, a_cellOf) :=
        fun h lv pe sh nd en nu ac => Kf 4 5 lv pe sh nd en nu ac (by decide) (by decide) (by decide) (fy_o10 hs t hL hz k hw hv (by omega) hk0 (Or.inl ⟨rfl, h⟩))
      have good : ((fb_ky sch ty a - 1) / 4 = 3 → m % 4 = 0) → ((fb_ky sch ty a - 1) / 4 = 5 → m % 8 = 0) → wX_counted_177 post (nI m) f_begun f_opened f_waiting f_time f_completions f_dropped f_free 5 f_taken f_fault f_frameCall (nI (at' + 1)) (nI (r.length + 1)) (-1) f_shift f_need (nI (fb_ky sch ty a)) (nI (fb_f a)) (lN m) a_schema a_callId a_callState a_deadline a_callRoot a_placeOf a_wheel a_wheelEnd a_later a_sooner a_done a_next a_first a_last a_fieldOf a_val a_endAt a_typeOf a_cellOf := by
        intro g3 g5
        have t' := T.2.2.2.2.2.2.1 _ _ _ _ _ _ _ _ _ _ t k hw hk0 k6 hv (by omega) g3 g5
        have hck : fy_Ck sch B sz (at' + 1) 0 := by
          by_cases h35 : (fb_ky sch ty a - 1) / 4 = 3 ∨ (fb_ky sch ty a - 1) / 4 = 5
          · exact fy_o9 hs t hL hz k hw hv (by omega) (Nat.le_refl _) (by omega) (Or.inr (h35.imp (fun z => ⟨z, g3 z⟩) (fun z => ⟨z, g5 z⟩)))
          · exact fy_o11 hs t hL hz k hw hv (by omega) hk0 (by omega) (by omega) (fun z => absurd z k6)
        exact nm_r (nI_add _ _) (fx_pel (post := post) (stk := (e, ty, pa) :: r) hs hz K0 hRc h6 (by omega) hc1 (fun _ _ => rfl) hta hck t' hSt hCe (fun _ _ _ _ _ _ z => z))
      have go163 : ((fb_ky sch ty a - 1) / 4 = 3 → m % 4 = 0) → wX_counted_163 post (nI m) (nI ((fb_ky sch ty a - 1) / 4)) f_begun f_opened f_waiting f_time f_completions f_dropped f_free 5 f_taken f_fault f_frameCall (nI (at' + 1)) (nI (r.length + 1)) (-1) f_shift f_need (nI (fb_ky sch ty a)) (nI (fb_f a)) (lN m) a_schema a_callId a_callState a_deadline a_callRoot a_placeOf a_wheel a_wheelEnd a_later a_sooner a_done a_next a_first a_last a_fieldOf a_val a_endAt a_typeOf a_cellOf := by
        intro g3
        refine pk_eq ((fb_ky sch ty a - 1) / 4) 5 (fun h5 => And.intro (by decide) ?_) (fun h5 => good g3 (fun z => absurd z h5))
        rw [er8]
        exact pk_eq (m % 8) 0 (fun z => good g3 (fun _ => z)) (fun z => bad (Or.inr ⟨h5, z⟩) _ _ _ _ _ _ _)
      refine pk_eq ((fb_ky sch ty a - 1) / 4) 3 (fun h3 => And.intro (by decide) ?_) (fun h3 => go163 (fun z => absurd z h3))
      rw [er4]
      exact pk_eq (m % 4) 0 (fun z => go163 (fun _ => z)) (fun z => bad (Or.inl ⟨h3, z⟩) _ _ _ _ _ _ _)
end
end
section
/-! one byte of a body: the component -/
section
variable {f_begun f_opened f_waiting f_time f_completions f_dropped f_free f_state f_taken f_fault f_frameCall f_at f_level f_packEnd f_shift f_need f_entry f_number : Int32} {f_acc : Int64} {a_schema a_callId a_callState a_deadline a_callRoot a_placeOf a_wheel a_wheelEnd a_later a_sooner a_done a_next a_first a_last a_fieldOf : Nat → Int32} {a_val : Nat → Int64} {a_endAt a_typeOf a_cellOf : Nat → Int32} {sch : Nat → Nat} {B : Nat → Int32} {sz at' : Nat} {kd : Nat → List Nat} {Fl : List Nat} {PL : Nat → List Nat} {rt : Nat → Nat} {CC : Nat → fb_Con}
theorem fx_var {A : Prop} {post : Int32 → SX → Prop} {s0 e0 n : Nat} {ac : Int64} (hp : fb_Pv B s0 n ac) (ha : at' = s0 + n) (he : at' < e0) (he2 : e0 < 1000)
    (lim : ∀ q : Int32 → Prop, q (nI e0) → wpX_limit q (f_begun, f_opened, f_waiting, f_time, f_completions, f_dropped, f_free, f_state, f_taken, f_fault, f_frameCall, nI (at' + 1), f_level, f_packEnd, nI (n + 1), f_need, f_entry, f_number, fb_va B s0 (n + 1), a_schema, a_callId, a_callState, a_deadline, a_callRoot, a_placeOf, a_wheel, a_wheelEnd, a_later, a_sooner, a_done, a_next, a_first, a_last, a_fieldOf, a_val, a_endAt, a_typeOf, a_cellOf))
    (KA : B at' < 128 → fb_Vr B s0 e0 (at' + 1) (fb_va B s0 (n + 1)) → A)
    (KV : ∀ rr, fy_V B s0 e0 (at' + 1) rr → (rr = nI 3 → post 3 (f_begun, f_opened, f_waiting, f_time, f_completions, f_dropped, f_free, f_state, f_taken, f_fault, f_frameCall, nI (at' + 1), f_level, f_packEnd, nI (n + 1), f_need, f_entry, f_number, fb_va B s0 (n + 1), a_schema, a_callId, a_callState, a_deadline, a_callRoot, a_placeOf, a_wheel, a_wheelEnd, a_later, a_sooner, a_done, a_next, a_first, a_last, a_fieldOf, a_val, a_endAt, a_typeOf, a_cellOf)) ∧ (rr = nI 4 → post 4 (f_begun, f_opened, f_waiting, f_time, f_completions, f_dropped, f_free, f_state, f_taken, f_fault, f_frameCall, nI (at' + 1), f_level, f_packEnd, nI (n + 1), f_need, f_entry, f_number, fb_va B s0 (n + 1), a_schema, a_callId, a_callState, a_deadline, a_callRoot, a_placeOf, a_wheel, a_wheelEnd, a_later, a_sooner, a_done, a_next, a_first, a_last, a_fieldOf, a_val, a_endAt, a_typeOf, a_cellOf)) ∧ (rr = -1 → fb_Pv B s0 (n + 1) (fb_va B s0 (n + 1)) → at' + 1 < e0 → post 0 (f_begun, f_opened, f_waiting, f_time, f_completions, f_dropped, f_free, f_state, f_taken, f_fault, f_frameCall, nI (at' + 1), f_level, f_packEnd, nI (n + 1), f_need, f_entry, f_number, fb_va B s0 (n + 1), a_schema, a_callId, a_callState, a_deadline, a_callRoot, a_placeOf, a_wheel, a_wheelEnd, a_later, a_sooner, a_done, a_next, a_first, a_last, a_fieldOf, a_val, a_endAt, a_typeOf, a_cellOf))) :
    (B at' < 128 → A) ∧ (¬ B at' < 128 → ((nI (n + 1) = 10 → post 3 (f_begun, f_opened, f_waiting, f_time, f_completions, f_dropped, f_free, f_state, f_taken, f_fault, f_frameCall, nI (at' + 1), f_level, f_packEnd, nI (n + 1), f_need, f_entry, f_number, fb_va B s0 (n + 1), a_schema, a_callId, a_callState, a_deadline, a_callRoot, a_placeOf, a_wheel, a_wheelEnd, a_later, a_sooner, a_done, a_next, a_first, a_last, a_fieldOf, a_val, a_endAt, a_typeOf, a_cellOf)) ∧ (¬ nI (n + 1) = 10 → wpX_limit (fun r => (nI (at' + 1) = r → post 4 (f_begun, f_opened, f_waiting, f_time, f_completions, f_dropped, f_free, f_state, f_taken, f_fault, f_frameCall, nI (at' + 1), f_level, f_packEnd, nI (n + 1), f_need, f_entry, f_number, fb_va B s0 (n + 1), a_schema, a_callId, a_callState, a_deadline, a_callRoot, a_placeOf, a_wheel, a_wheelEnd, a_later, a_sooner, a_done, a_next, a_first, a_last, a_fieldOf, a_val, a_endAt, a_typeOf, a_cellOf)) ∧ (¬ nI (at' + 1) = r → post 0 (f_begun, f_opened, f_waiting, f_time, f_completions, f_dropped, f_free, f_state, f_taken, f_fault, f_frameCall, nI (at' + 1), f_level, f_packEnd, nI (n + 1), f_need, f_entry, f_number, fb_va B s0 (n + 1), a_schema, a_callId, a_callState, a_deadline, a_callRoot, a_placeOf, a_wheel, a_wheelEnd, a_later, a_sooner, a_done, a_next, a_first, a_last, a_fieldOf, a_val, a_endAt, a_typeOf, a_cellOf))) (f_begun, f_opened, f_waiting, f_time, f_completions, f_dropped, f_free, f_state, f_taken, f_fault, f_frameCall, nI (at' + 1), f_level, f_packEnd, nI (n + 1), f_need, f_entry, f_number, fb_va B s0 (n + 1), a_schema, a_callId, a_callState, a_deadline, a_callRoot, a_placeOf, a_wheel, a_wheelEnd, a_later, a_sooner, a_done, a_next, a_first, a_last, a_fieldOf, a_val, a_endAt, a_typeOf, a_cellOf)))) := by
  obtain ⟨p1, p2, _⟩ := hp
  refine br_c (fun hb => KA hb ⟨n, p1, p2, by rw [← ha]; exact hb, by omega, by omega, rfl⟩) (fun hb => ?_)
  have hb' : 128 ≤ B (s0 + n) := by rw [← ha]; exact Int32.not_lt.mp hb
  have hall : ∀ j, j ≤ n → 128 ≤ B (s0 + j) := fun j hj => by
    by_cases e : j = n
    · rw [e]; exact hb'
    · exact p2 j (by omega)
  refine pk_eq (n + 1) 10 (fun h10 => ?_) (fun h10 => lim _ (pk_eq (at' + 1) e0 (fun h => ?_) (fun h => ?_)))
  · exact (KV (nI 3) (Or.inr (Or.inr ⟨rfl, fun j hj => hall j (by omega), by omega, by omega⟩))).1 rfl
  · exact (KV (nI 4) (Or.inr (Or.inl ⟨rfl, n, by omega, hall, by omega, by omega⟩))).2.1 rfl
  · have hpv : fb_Pv B s0 (n + 1) (fb_va B s0 (n + 1)) := ⟨by omega, fun j hj => hall j (by omega), rfl⟩
    exact (KV (-1) (Or.inl ⟨rfl, n + 1, _, hpv, by omega, fun _ => by omega⟩)).2.2 rfl hpv (by omega)
/-- a single value ends here -/
theorem fx_sv {post : Int32 → SX → Prop} {R : SX → Prop} {s s1 e ty pa : Nat} {r : fb_Stk} {a : Int64} (hs : fb_Sc sch) (hz : sz ≤ 60) (hL : at' + 1 ≤ sz) (t : fb_Tr sch B sz s ((e, ty, pa) :: r) none (CC 6)) (k : fb_Key B s e s1 a) (hw : fb_w a ≠ 2) (hv : fb_Sv B e s1 (fb_w a) (at' + 1) f_acc)
    (hSt : fx_St a_endAt a_typeOf ((e, ty, pa) :: r)) (hH : fx_Hs a_next a_first a_last a_fieldOf a_val f_free a_cellOf kd Fl PL rt CC at' ((e, ty, pa) :: r)) (hta : a_typeOf 1 = 0) (hck : fy_Ck sch B sz (at' + 1) 0)
    (K0 : fx_K0 post f_begun f_opened f_waiting f_time f_completions f_dropped f_taken f_fault f_frameCall a_schema a_callId a_callState a_deadline a_callRoot a_placeOf a_wheel a_wheelEnd a_later a_sooner a_done sch B sz at' PL rt CC)
    (hR2 : ∀ fr nx fi la fo va lv, post 0 (f_begun, f_opened, f_waiting, f_time, f_completions, f_dropped, fr, 2, f_taken, f_fault, f_frameCall, nI (at' + 1), lv, -1, 0, 0, nI (fb_ky sch ty a), nI (fb_f a), 0, a_schema, a_callId, a_callState, a_deadline, a_callRoot, a_placeOf, a_wheel, a_wheelEnd, a_later, a_sooner, a_done, nx, fi, la, fo, va, a_endAt, a_typeOf, a_cellOf) → R (f_begun, f_opened, f_waiting, f_time, f_completions, f_dropped, fr, 2, f_taken, f_fault, f_frameCall, nI (at' + 1), lv, -1, 0, 0, nI (fb_ky sch ty a), nI (fb_f a), 0, a_schema, a_callId, a_callState, a_deadline, a_callRoot, a_placeOf, a_wheel, a_wheelEnd, a_later, a_sooner, a_done, nx, fi, la, fo, va, a_endAt, a_typeOf, a_cellOf)) :
    wpX_valueEnds R (f_begun, f_opened, f_waiting, f_time, f_completions, f_dropped, f_free, f_state, f_taken, f_fault, f_frameCall, nI (at' + 1), nI (r.length + 1), -1, f_shift, f_need, nI (fb_ky sch ty a), nI (fb_f a), f_acc, a_schema, a_callId, a_callState, a_deadline, a_callRoot, a_placeOf, a_wheel, a_wheelEnd, a_later, a_sooner, a_done, a_next, a_first, a_last, a_fieldOf, a_val, a_endAt, a_typeOf, a_cellOf) := by
  obtain ⟨u1, u2, u3, u4, u5⟩ := fb_WStop (fb_W hs t).1
  have T := fb_TrC sch B sz
  obtain ⟨hR, h6, hl, hCe, hc1⟩ := hH
  by_cases hk0 : fb_ky sch ty a = 0
  · have hsk : fb_Sk B e s1 (fb_w a) (at' + 1) := by
      rcases hv with ⟨h1, h2⟩ | ⟨h1, h2, _⟩
      · exact Or.inl ⟨h1, _, h2⟩
      · exact Or.inr (Or.inl ⟨h1, h2⟩)
    have t' := T.2.2.2.1 _ _ _ _ _ _ _ _ (at' + 1) t k hk0 hsk
    have hRc : fh_HR a_next a_first a_last a_fieldOf a_val f_free kd Fl PL rt (fh_cc CC (CC 6)) := by rw [fh_ccE]; exact hR
    rw [hk0]
    rw [hk0] at hR2
    refine br_t rfl (br_t fa_m1l ?_)
    exact fx_next (f_packEnd := -1) (stk := (e, ty, pa) :: r) (Q := fx_Ce a_cellOf kd a_fieldOf (rt 6)) hs hz (fun x r h => h.2) t' hSt hCe (fun stk' b1 b2 b3 b4 => hR2 _ _ _ _ _ _ _ (fx_fin K0 hRc h6 (by omega) hc1 (fun _ _ => rfl) hta hck stk' b1 b2 b3 b4))
  · obtain ⟨e1, e2, e3⟩ := fb_kyE hk0
    have hky : fb_ky sch ty a ≤ 28 := by rw [← e2]; exact (hs _).1
    have hf0 := k.2.2.1
    have hk6 : (fb_ky sch ty a - 1) / 4 ≠ 6 := by
      intro z
      rw [z] at e3
      exact hw (e3.elim (fun q => q) (fun q => q.1))
    have hWC := fb_C hs t
    have hPT := (hWC.2.2.2 _ List.mem_cons_self).2
    have hCe' := hCe
    obtain ⟨⟨mm, hce, hAt⟩, hCe2⟩ := hCe
    have hAt' : fh_At kd a_fieldOf (rt 6) pa mm := hAt
    have hpre := fh_HpQ hR.1 (by omega) h6
    have hu : ∀ x, fh_At kd a_fieldOf (rt 6) pa x → x = mm := fun x hx => fh_AtU hpre (fh_HpN hR.1 (by omega)) (hR.2.1 6 (by omega) h6) hWC.1 (fx_hq hWC hPT) hAt' hx
    have t' := T.2.2.2.2.1 _ _ _ _ _ _ _ _ _ _ t k hk0 hv
    refine fx_ve (a := at' + 1) hR h6 hAt' hu (fun p hp => (hWC.1 _ p hp).2) (by omega) hce (by omega) e1 (fun _ hqq => fx_h0 hWC hPT (by omega) e1 (Or.inl (by show (sch (ty * 16 + fb_f a) - 1) / 4 ≠ 6; rw [e2]; exact hk6)) hqq) (by omega) hl (by omega) hky (fx_hu2 hWC hPT (by omega) e1 hAt') ?_
    intro nx' fi' la' fo' va' fr' kd' Fl' PL' b1 b2 b3 b4 b5
    refine br_t fa_m1l ?_
    exact fx_next (f_packEnd := -1) (stk := (e, ty, pa) :: r) (Q := fx_Ce a_cellOf kd' fo' (rt 6)) hs hz (fun x r h => h.2) t' hSt (fx_CeM b5 hCe') (fun stk' c1 c2 c3 c4 => hR2 _ _ _ _ _ _ _ (fx_fin K0 b1 b3 (by omega) hc1 b4 hta hck stk' c1 c2 c3 c4))
/-- a packed value ends here -/
theorem fx_pv {post : Int32 → SX → Prop} {R : SX → Prop} {s e ty pa p en f : Nat} {r : fb_Stk} (hs : fb_Sc sch) (hz : sz ≤ 60) (hL : at' + 1 ≤ sz) (t : fb_Tr sch B sz s ((e, ty, pa) :: r) (some (p, en, f)) (CC 6)) (hsp : s < p) (hv : fb_El B p ((en - 1) / 4) s (at' + 1) f_acc)
    (hSt : fx_St a_endAt a_typeOf ((e, ty, pa) :: r)) (hH : fx_Hs a_next a_first a_last a_fieldOf a_val f_free a_cellOf kd Fl PL rt CC at' ((e, ty, pa) :: r)) (hta : a_typeOf 1 = 0) (hck : fy_Ck sch B sz (at' + 1) 0)
    (K0 : fx_K0 post f_begun f_opened f_waiting f_time f_completions f_dropped f_taken f_fault f_frameCall a_schema a_callId a_callState a_deadline a_callRoot a_placeOf a_wheel a_wheelEnd a_later a_sooner a_done sch B sz at' PL rt CC)
    (hR2 : ∀ fr nx fi la fo va st lv pe sh nd ac, post 0 (f_begun, f_opened, f_waiting, f_time, f_completions, f_dropped, fr, st, f_taken, f_fault, f_frameCall, nI (at' + 1), lv, pe, sh, nd, nI en, nI f, ac, a_schema, a_callId, a_callState, a_deadline, a_callRoot, a_placeOf, a_wheel, a_wheelEnd, a_later, a_sooner, a_done, nx, fi, la, fo, va, a_endAt, a_typeOf, a_cellOf) → R (f_begun, f_opened, f_waiting, f_time, f_completions, f_dropped, fr, st, f_taken, f_fault, f_frameCall, nI (at' + 1), lv, pe, sh, nd, nI en, nI f, ac, a_schema, a_callId, a_callState, a_deadline, a_callRoot, a_placeOf, a_wheel, a_wheelEnd, a_later, a_sooner, a_done, nx, fi, la, fo, va, a_endAt, a_typeOf, a_cellOf)) :
    wpX_valueEnds R (f_begun, f_opened, f_waiting, f_time, f_completions, f_dropped, f_free, f_state, f_taken, f_fault, f_frameCall, nI (at' + 1), nI (r.length + 1), nI p, f_shift, f_need, nI en, nI f, f_acc, a_schema, a_callId, a_callState, a_deadline, a_callRoot, a_placeOf, a_wheel, a_wheelEnd, a_later, a_sooner, a_done, a_next, a_first, a_last, a_fieldOf, a_val, a_endAt, a_typeOf, a_cellOf) := by
  obtain ⟨u1, u2, u3, u4, u5⟩ := fb_WStop (fb_W hs t).1
  have T := fb_TrC sch B sz
  obtain ⟨hR, h6, hl, hCe, hc1⟩ := hH
  obtain ⟨e', ty', pa', r', hh, w1, w2, w3, w4, w5, w6, w7, w8, w9, w10⟩ := (fb_W hs t).2 p en f rfl
  cases hh
  have hky : en ≤ 28 := by rw [← w5]; exact (hs _).1
  have hWC := fb_C hs t
  have hPT := (hWC.2.2.2 _ List.mem_cons_self).2
  have hCe' := hCe
  obtain ⟨⟨mm, hce, hAt⟩, hCe2⟩ := hCe
  have hAt' : fh_At kd a_fieldOf (rt 6) pa mm := hAt
  have hpre := fh_HpQ hR.1 (by omega) h6
  have hu : ∀ x, fh_At kd a_fieldOf (rt 6) pa x → x = mm := fun x hx => fh_AtU hpre (fh_HpN hR.1 (by omega)) (hR.2.1 6 (by omega) h6) hWC.1 (fx_hq hWC hPT) hAt' hx
  have t' := T.2.2.2.2.2.2.2 _ _ _ _ _ _ _ _ _ _ _ t hsp hv
  refine fx_ve (a := at' + 1) hR h6 hAt' hu (fun p hp => (hWC.1 _ p hp).2) (by omega) hce w3 w4 (fun _ hqq => fx_h0 hWC hPT w3 w4 (Or.inl (by show (sch (ty * 16 + f) - 1) / 4 ≠ 6; rw [w5]; exact w7)) hqq) (by omega) hl (by omega) hky (fx_hu2 hWC hPT w3 w4 hAt') ?_
  intro nx' fi' la' fo' va' fr' kd' Fl' PL' b1 b2 b3 b4 b5
  refine br_f (nI_pos (by omega)) ?_
  exact fx_pel (post := post) (stk := (e, ty, pa) :: r) hs hz K0 b1 b3 (by omega) hc1 b4 hta hck t' hSt (fx_CeM b5 hCe') (fun _ _ _ _ _ _ z => hR2 _ _ _ _ _ _ _ _ _ _ _ _ z)
end
end
section
/-! one byte of a body, by what is being read -/
section
variable {f_begun f_opened f_waiting f_time f_completions f_dropped f_free f_state f_taken f_fault f_frameCall f_at f_level f_packEnd f_shift f_need f_entry f_number : Int32} {f_acc : Int64} {a_schema a_callId a_callState a_deadline a_callRoot a_placeOf a_wheel a_wheelEnd a_later a_sooner a_done a_next a_first a_last a_fieldOf : Nat → Int32} {a_val : Nat → Int64} {a_endAt a_typeOf a_cellOf : Nat → Int32} {sch : Nat → Nat} {B : Nat → Int32} {sz at' : Nat} {kd : Nat → List Nat} {Fl : List Nat} {PL : Nat → List Nat} {rt : Nat → Nat} {CC : Nat → fb_Con}
theorem fx_body {post : Int32 → SX → Prop} {s : Nat} {stk : fb_Stk} {pk : Option (Nat × Nat × Nat)} (hs : fb_Sc sch) (hz : sz ≤ 60) (hsch : ∀ i, i < 64 → a_schema i = nI (sch i)) (hL : at' + 1 ≤ sz)
    (hF : fx_Fm sch B sz at' s stk pk (CC 6) f_state f_level f_packEnd f_shift f_need f_entry f_number f_acc a_endAt a_typeOf)
    (hH : fx_Hs a_next a_first a_last a_fieldOf a_val f_free a_cellOf kd Fl PL rt CC at' stk) (hta : a_typeOf 1 = 0)
    (K0 : fx_K0 post f_begun f_opened f_waiting f_time f_completions f_dropped f_taken f_fault f_frameCall a_schema a_callId a_callState a_deadline a_callRoot a_placeOf a_wheel a_wheelEnd a_later a_sooner a_done sch B sz at' PL rt CC) (Kf : fx_Kf post f_begun f_opened f_waiting f_time f_completions f_dropped f_taken f_fault f_frameCall a_schema a_callId a_callState a_deadline a_callRoot a_placeOf a_wheel a_wheelEnd a_later a_sooner a_done f_free a_next a_first a_last a_fieldOf a_val a_endAt a_typeOf a_cellOf sch B sz at') : wpX_body post (f_begun, f_opened, f_waiting, f_time, f_completions, f_dropped, f_free, f_state, f_taken, f_fault, f_frameCall, nI (at' + 1), f_level, f_packEnd, f_shift, f_need, f_entry, f_number, f_acc, a_schema, a_callId, a_callState, a_deadline, a_callRoot, a_placeOf, a_wheel, a_wheelEnd, a_later, a_sooner, a_done, a_next, a_first, a_last, a_fieldOf, a_val, a_endAt, a_typeOf, a_cellOf) (B at') := by
  obtain ⟨t, rfl, hSt, hM⟩ := hF
  have T := fb_TrC sch B sz
  have hH' : fx_Hs a_next a_first a_last a_fieldOf a_val f_free a_cellOf kd Fl PL rt (fh_cc CC (CC 6)) (at' + 1) stk := by
    rw [fh_ccE]
    exact ⟨hH.1, hH.2.1, by have := hH.2.2.1; omega, hH.2.2.2⟩
  rcases hM with ⟨rfl, rfl, _, h4⟩ | ⟨e, ty, pa, r, rfl, hM⟩
  · exfalso
    rcases (fb_W hs t).1 with ⟨_, h⟩ | ⟨h, _⟩ | ⟨_, _, _, h, _⟩ | ⟨_, _, _, _, _, _, h, _⟩
    · omega
    · cases h
    · cases h
    · cases h
  obtain ⟨u1, u2, u3, u4, u5⟩ := fb_WStop (fb_W hs t).1
  have K0' : ∀ (s' : Nat) (pk' : Option (Nat × Nat × Nat)) (st pe sh nd en nu : Int32) (ac : Int64), fb_Tr sch B sz s' ((e, ty, pa) :: r) pk' (CC 6) → fx_Mo sch B (at' + 1) s' ((e, ty, pa) :: r) pk' st pe sh nd en nu ac → fy_Ck sch B sz (at' + 1) 0 → post 0 (f_begun, f_opened, f_waiting, f_time, f_completions, f_dropped, f_free, st, f_taken, f_fault, f_frameCall, nI (at' + 1), nI (r.length + 1), pe, sh, nd, en, nu, ac, a_schema, a_callId, a_callState, a_deadline, a_callRoot, a_placeOf, a_wheel, a_wheelEnd, a_later, a_sooner, a_done, a_next, a_first, a_last, a_fieldOf, a_val, a_endAt, a_typeOf, a_cellOf) :=
    fun s' pk' st pe sh nd en nu ac h1 h2 h3 => K0 s' ((e, ty, pa) :: r) pk' (CC 6) st _ pe sh nd en nu ac _ _ _ _ _ _ _ _ _ kd Fl PL ⟨h1, rfl, hSt, h2⟩ hH' (fun _ _ => rfl) hta h3
  rcases hM with ⟨rfl, rfl, rfl, n, ha, hlt, rfl, hp⟩ | ⟨rfl, rfl, s1, a, k, rfl, rfl, hM⟩ | ⟨p, en, f, rfl, rfl, rfl, rfl, hM⟩
  · have hp' := hp
    obtain ⟨p1, p2, rfl⟩ := hp
    refine br_f (by decide) (br_f (by decide) (nm_r (nI_1 n) (nm_r (e' := fb_va B s (n + 1)) (by rw [ha]; rfl) (fx_var hp' ha hlt (by omega) (fun q Q => fx_limN hSt u5 Q) (fun hb hv => br_t rfl ?_) (fun rr hV => ⟨fun e3 => ?_, fun e4 => ?_, fun em hpv hl => ?_⟩)))))
    · refine fx_key hs hz hsch hL t hv (by omega) hSt hH hta ?_ ?_
      · exact fun s' stk' pk' C' st lv pe sh nd en nu ac ea ta ce nx fi la fo va fr kd Fl PL' h1 h2 h3 h4 h5 => K0 s' stk' pk' C' st lv pe sh nd en nu ac ea ta ce nx fi la fo va fr kd Fl PL' h1 h2 h3 h4 h5
      · exact fun f st lv pe sh nd en nu ac h1 h2 h3 h4 => Kf f st lv pe sh nd en nu ac h1 h2 h3 h4
    · subst e3
      have h := fy_o1 hs t (by omega) hL hz (by omega) hV
      rw [if_neg (by decide)] at h
      exact Kf 3 2 _ _ _ _ _ _ _ (by decide) (by decide) (by decide) h
    · subst e4
      have h := fy_o1 hs t (by omega) hL hz (by omega) hV
      rw [if_neg (by decide)] at h
      exact Kf 4 2 _ _ _ _ _ _ _ (by decide) (by decide) (by decide) h
    · subst em
      have h := fy_o1 hs t (by omega) hL hz (by omega) hV
      rw [if_pos rfl] at h
      exact K0' s none 2 (-1) _ _ _ _ _ t (Or.inr ⟨e, ty, pa, r, rfl, Or.inl ⟨rfl, rfl, rfl, n + 1, by omega, hl, rfl, hpv⟩⟩) h
  · have l1 := fb_KeyL k
    have hll := fb_le1 (fb_w a)
    have hk5 := k.2.2.2.2
    rcases hM with ⟨n, hst, ha, hlt, rfl, hp⟩ | ⟨n, rfl, hw, hk0, ha, hn, rfl, rfl, rfl⟩ | ⟨n, rfl, hk0, hn, rfl, hM⟩
    · have hp' := hp
      obtain ⟨p1, p2, rfl⟩ := hp
      have hw02 : fb_w a = 0 ∨ fb_w a = 2 := hst.imp (fun z => z.2) (fun z => z.2)
      have hV3 : ∀ rr, fy_V B s1 e (at' + 1) rr → fy_Ck sch B sz (at' + 1) (if rr = -1 then 0 else rr) := fun rr hV => fy_o4 hs t hL hz k (by omega) hw02 hV
      have hn2 : ¬ f_state < 2 := by rcases hst with ⟨rfl, _⟩ | ⟨rfl, _⟩ <;> decide
      have hn6 : ¬ f_state = 6 := by rcases hst with ⟨rfl, _⟩ | ⟨rfl, _⟩ <;> decide
      have hn4 : ¬ f_state = 4 := by rcases hst with ⟨rfl, _⟩ | ⟨rfl, _⟩ <;> decide
      have hn22 : ¬ f_state = 2 := by rcases hst with ⟨rfl, _⟩ | ⟨rfl, _⟩ <;> decide
      refine br_f hn6 (br_f hn4 (nm_r (nI_1 n) (nm_r (e' := fb_va B s1 (n + 1)) (by rw [ha]; rfl) (fx_var hp' ha hlt (by omega) (fun q Q => fx_limN hSt u5 Q) (fun hb hv => br_f hn22 ?_) (fun rr hV => ⟨fun e3 => ?_, fun e4 => ?_, fun em hpv hl => ?_⟩)))))
      · rcases hst with ⟨rfl, hw⟩ | ⟨rfl, hw⟩
        · refine br_f (by decide) ?_
          exact fx_sv (post := post) hs hz hL t k (by omega) (Or.inl ⟨hw, hv⟩) hSt hH hta (fy_o7 hs t hL hz k hw hv) K0 (fun _ _ _ _ _ _ _ z => z)
        · refine br_t rfl (fx_cnt hs hz hL t k hw hv hSt hH hta ?_ ?_)
          · exact fun s' stk' pk' C' st lv pe sh nd en nu ac ea ta ce nx fi la fo va fr kd Fl PL' h1 h2 h3 h4 h5 => K0 s' stk' pk' C' st lv pe sh nd en nu ac ea ta ce nx fi la fo va fr kd Fl PL' h1 h2 h3 h4 h5
          · exact fun f st lv pe sh nd en nu ac h1 h2 h3 h4 => Kf f st lv pe sh nd en nu ac h1 h2 h3 h4
      · subst e3
        have h := hV3 _ hV
        rw [if_neg (by decide)] at h
        exact Kf 3 f_state _ _ _ _ _ _ _ (by decide) (by decide) hn2 h
      · subst e4
        have h := hV3 _ hV
        rw [if_neg (by decide)] at h
        exact Kf 4 f_state _ _ _ _ _ _ _ (by decide) (by decide) hn2 h
      · subst em
        have h := hV3 _ hV
        rw [if_pos rfl] at h
        exact K0' s none f_state (-1) _ _ _ _ _ t (Or.inr ⟨e, ty, pa, r, rfl, Or.inr (Or.inl ⟨rfl, rfl, s1, a, k, rfl, rfl, Or.inl ⟨n + 1, hst, by omega, hl, rfl, hpv⟩⟩)⟩) h
    · have hck := fy_o6 hs t hL hz k (by omega) hw (by omega)
      refine br_f (by decide) (br_t rfl (nm_r (e' := fb_ba B s1 (n + 1)) (by rw [ha]; rfl) (nm_r (nI_1 n) ?_)))
      refine pk_eq (n + 1) (fb_le (fb_w a)) (fun hE => ?_) (fun hE => ?_) (hx := nI_1 n)
      · rw [hE]
        refine fx_sv (post := post) hs hz hL t k (by omega) (Or.inr ⟨hw, by omega, rfl⟩) hSt hH hta hck K0 (fun _ _ _ _ _ _ _ z => z)
      · exact K0' s none 4 (-1) _ _ _ _ _ t (Or.inr ⟨e, ty, pa, r, rfl, Or.inr (Or.inl ⟨rfl, rfl, s1, a, k, rfl, rfl, Or.inr (Or.inl ⟨n + 1, rfl, hw, hk0, by omega, by omega, rfl, rfl, rfl⟩)⟩)⟩) hck
    · have hck : fy_Ck sch B sz (at' + 1) 0 := by
        rcases hM with ⟨hw, h1, h2⟩ | ⟨hw, s2, m, hv, h1, h2, h3⟩
        · exact fy_o6 hs t hL hz k (by omega) hw (by omega)
        · exact fy_o9 hs t hL hz k hw hv h1 (by omega) (by omega) (Or.inl hk0)
      have en1 : nI n - 1 = nI (n - 1) := pk_sub (b := 1) hn
      refine br_t rfl (nm_r en1 ?_)
      refine pk_eq (n - 1) 0 (fun hE => ?_) (fun hE => ?_) (hx := en1)
      · have hsk : fb_Sk B e s1 (fb_w a) (at' + 1) := by
          rcases hM with ⟨hw, h1, h2⟩ | ⟨hw, s2, m, hv, h1, h2, h3⟩
          · exact Or.inr (Or.inl ⟨hw, by omega⟩)
          · exact Or.inr (Or.inr ⟨hw, s2, m, hv, h1, by omega⟩)
        have t' := T.2.2.2.1 _ _ _ _ _ _ _ _ (at' + 1) t k hk0 hsk
        obtain ⟨hR, h6, hl, hCe, hc1⟩ := hH'
        exact fx_next (f_packEnd := -1) (stk := (e, ty, pa) :: r) (Q := fx_Ce a_cellOf kd a_fieldOf (rt 6)) hs hz (fun x r h => h.2) t' hSt hCe (fun stk' b1 b2 b3 b4 => fx_fin K0 hR h6 (by omega) hc1 (fun _ _ => rfl) hta hck stk' b1 b2 b3 b4)
      · refine K0' s none 6 (-1) _ _ _ _ _ t (Or.inr ⟨e, ty, pa, r, rfl, Or.inr (Or.inl ⟨rfl, rfl, s1, a, k, rfl, rfl, Or.inr (Or.inr ⟨n - 1, rfl, hk0, by omega, rfl, ?_⟩)⟩)⟩) hck
        rcases hM with ⟨hw, h1, h2⟩ | ⟨hw, s2, m, hv, h1, h2, h3⟩
        · exact Or.inl ⟨hw, by omega, by omega⟩
        · exact Or.inr ⟨hw, s2, m, hv, h1, by omega, by omega⟩
  · obtain ⟨e', ty', pa', r', hh, w1, w2, w3, w4, w5, w6, w7, w8, w9, w10⟩ := (fb_W hs t).2 p en f rfl
    cases hh
    rcases hM with ⟨n, rfl, h3, h5, ha, hlt, rfl, hp⟩ | ⟨n, w, rfl, hkw, ha, hn, hwp, rfl, rfl, rfl⟩
    · have hp' := hp
      obtain ⟨p1, p2, rfl⟩ := hp
      have hV3 : ∀ rr, fy_V B s p (at' + 1) rr → fy_Ck sch B sz (at' + 1) (if rr = -1 then 0 else rr) := fun rr hV => fy_o12 hs t (by omega) hL hz (by omega) h3 h5 (Or.inl hV)
      refine br_f (by decide) (br_f (by decide) (nm_r (nI_1 n) (nm_r (e' := fb_va B s (n + 1)) (by rw [ha]; rfl) (fx_var hp' ha hlt (by omega) (fun q Q => fx_limP (by omega) Q) (fun hb hv => br_f (by decide) (br_f (by decide) ?_)) (fun rr hV => ⟨fun e3 => ?_, fun e4 => ?_, fun em hpv hl => ?_⟩)))))
      · have hck := fy_o12 (rr := 0) hs t (by omega) hL hz (by omega) h3 h5 (Or.inr ⟨rfl, _, hv⟩)
        rw [if_neg (by decide)] at hck
        exact fx_pv (post := post) hs hz hL t (by omega) (Or.inr (Or.inr ⟨h3, h5, hv⟩)) hSt hH hta hck K0 (fun _ _ _ _ _ _ _ _ _ _ _ _ z => z)
      · subst e3
        have h := hV3 _ hV
        rw [if_neg (by decide)] at h
        exact Kf 3 3 _ _ _ _ _ _ _ (by decide) (by decide) (by decide) h
      · subst e4
        have h := hV3 _ hV
        rw [if_neg (by decide)] at h
        exact Kf 4 3 _ _ _ _ _ _ _ (by decide) (by decide) (by decide) h
      · subst em
        have h := hV3 _ hV
        rw [if_pos rfl] at h
        exact K0' s _ 3 (nI p) _ _ _ _ _ t (Or.inr ⟨e, ty, pa, r, rfl, Or.inr (Or.inr ⟨p, en, f, rfl, rfl, rfl, rfl, Or.inl ⟨n + 1, rfl, h3, h5, by omega, hl, rfl, hpv⟩⟩)⟩) h
    · have h35 : (en - 1) / 4 = 3 ∨ (en - 1) / 4 = 5 := hkw.imp (fun z => z.1) (fun z => z.1)
      have hck := fy_o13 hs t (by omega) hL hz (by omega) h35
      refine br_f (by decide) (br_t rfl (nm_r (e' := fb_ba B s (n + 1)) (by rw [ha]; rfl) (nm_r (nI_1 n) ?_)))
      refine pk_eq (n + 1) w (fun hE => ?_) (fun hE => ?_) (hx := nI_1 n)
      · refine fx_pv (post := post) hs hz hL t (by omega) ?_ hSt hH hta hck K0 (fun _ _ _ _ _ _ _ _ _ _ _ _ z => z)
        rcases hkw with ⟨h3, h4⟩ | ⟨h5, h8⟩
        · exact Or.inl ⟨h3, by omega, by rw [hE, h4]⟩
        · exact Or.inr (Or.inl ⟨h5, by omega, by rw [hE, h8]⟩)
      · exact K0' s _ 4 (nI p) _ _ _ _ _ t (Or.inr ⟨e, ty, pa, r, rfl, Or.inr (Or.inr ⟨p, en, f, rfl, rfl, rfl, rfl, Or.inr ⟨n + 1, w, rfl, hkw, by omega, by omega, hwp, rfl, rfl, rfl⟩⟩)⟩) hck
end
end
section
/-! lists that are linked both ways -/
def fc_lI (prev : Int32) : List Nat → Int32
  | [] => prev
  | a :: l => fc_lI (nI a) l
theorem fc_lIa {a : Nat} : ∀ {l : List Nat} {prev : Int32}, fc_lI prev (l ++ [a]) = nI a
  | [], _ => rfl
  | _ :: l, _ => fc_lIa (l := l)
def fc_DL (la so : Nat → Int32) (prev : Int32) : List Nat → Prop
  | [] => True
  | a :: l => so a = prev ∧ la a = fa_hd l ∧ fc_DL la so (nI a) l
theorem fc_DLc {la so la' so' : Nat → Int32} : ∀ {l : List Nat} {prev : Int32}, fc_DL la so prev l → (∀ x, x ∈ l → la' x = la x ∧ so' x = so x) → fc_DL la' so' prev l
  | [], _, _, _ => trivial
  | a :: l, prev, h, g => ⟨(g a List.mem_cons_self).2.trans h.1, (g a List.mem_cons_self).1.trans h.2.1, fc_DLc h.2.2 (fun x hx => g x (List.mem_cons_of_mem _ hx))⟩
theorem fc_DLm {la so : Nat → Int32} {p : Nat} {D : List Nat} : ∀ {A : List Nat} {prev : Int32}, fc_DL la so prev (A ++ p :: D) → so p = fc_lI prev A ∧ la p = fa_hd D
  | [], _, h => ⟨h.1, h.2.1⟩
  | a :: A, _, h => fc_DLm (A := A) (prev := nI a) h.2.2
/-- p leaves the list, by what complete stores -/
theorem fc_DLr {la so la' so' : Nat → Int32} {p : Nat} {D : List Nat} (hso : ∀ x, so' x = if (nI x = fa_hd D ∧ x < 6) then so p else so x) (hD : ∀ x, x ∈ D → x < 6) : ∀ {A : List Nat} {prev : Int32}, fc_DL la so prev (A ++ p :: D) → (A ++ p :: D).Nodup → (∀ x, x ∈ A → x < 6) → (∀ x, la' x = if nI x = fc_lI prev A ∧ x < 6 ∧ A ≠ [] then la p else la x) → fc_DL la' so' prev (A ++ D)
  | [], prev, h, hn, _, hla => by
    obtain ⟨h1, h2, h3⟩ := h
    have ela : ∀ x, la' x = la x := fun x => by rw [hla x, if_neg (fun z => z.2.2 rfl)]
    rw [List.nil_append] at hn ⊢
    match D, hD, hso, h2, h3, hn with
    | [], _, _, _, _, _ => trivial
    | d :: D', hD, hso, h2, h3, hn =>
      obtain ⟨k1, k2, k3⟩ := h3
      rw [List.nodup_cons] at hn
      have hn2 := List.nodup_cons.mp hn.2
      have hd : d < 6 := hD d List.mem_cons_self
      refine ⟨?_, (ela d).trans k2, fc_DLc k3 (fun x hx => ⟨ela x, ?_⟩)⟩
      · rw [hso d, if_pos ⟨rfl, hd⟩]; exact h1
      · rw [hso x, if_neg]
        rintro ⟨z, hx6⟩
        have : x = d := (nI_eq (by omega) (by omega)).mp z
        exact hn2.1 (this ▸ hx)
  | a :: A, prev, h, hn, hA, hla => by
    obtain ⟨h1, h2, h3⟩ := h
    rw [List.cons_append, List.nodup_cons] at hn
    have ha6 : a < 6 := hA a List.mem_cons_self
    have haD : ¬ (nI a = fa_hd D ∧ a < 6) := by
      rintro ⟨z, _⟩
      match D, hD, hn, z with
      | [], _, _, z => exact fa_m1n (by omega) z
      | d :: D', hD, hn, z =>
        have hd := hD d List.mem_cons_self
        have : a = d := (nI_eq (by omega) (by omega)).mp z
        exact hn.1 (by rw [this]; simp)
    have key := fc_DLr hso hD (la' := fun x => if nI x = fc_lI (nI a) A ∧ x < 6 ∧ A ≠ [] then la p else la x) h3 hn.2 (fun x hx => hA x (List.mem_cons_of_mem _ hx)) (fun _ => rfl)
    have hag : ∀ x, x ∈ A ++ D → la' x = (if nI x = fc_lI (nI a) A ∧ x < 6 ∧ A ≠ [] then la p else la x) := by
      intro x hx
      rw [hla x]
      have e1 : fc_lI prev (a :: A) = fc_lI (nI a) A := rfl
      rw [e1]
      by_cases hA0 : A = []
      · subst hA0
        have hne : ¬ (nI x = fc_lI (nI a) [] ∧ x < 6 ∧ [a] ≠ []) := by
          rintro ⟨z, hx6, _⟩
          have : x = a := (nI_eq (by omega) (by omega)).mp z
          exact hn.1 (by rw [← this]; simp at hx ⊢; exact Or.inr hx)
        rw [if_neg hne, if_neg (fun z => z.2.2 rfl)]
      · by_cases hc : nI x = fc_lI (nI a) A ∧ x < 6
        · rw [if_pos ⟨hc.1, hc.2, by simp⟩, if_pos ⟨hc.1, hc.2, hA0⟩]
        · rw [if_neg (fun z => hc ⟨z.1, z.2.1⟩), if_neg (fun z => hc ⟨z.1, z.2.1⟩)]
    refine ⟨by rw [hso a, if_neg haD]; exact h1, ?_, fc_DLc key (fun x hx => ⟨hag x hx, rfl⟩)⟩
    rw [hla a]
    by_cases hA0 : A = []
    · subst hA0
      rw [if_pos ⟨rfl, ha6, by simp⟩]
      exact (fc_DLm (A := []) h3).2
    · rw [if_neg]
      · have hh : la a = fa_hd (A ++ p :: D) := h2
        rw [hh, fa_hda hA0]
        exact (fa_hda hA0).symm
      · rintro ⟨z, _⟩
        rcases List.eq_nil_or_concat A with h0 | ⟨A', y, h0⟩
        · exact hA0 h0
        · rw [List.concat_eq_append] at h0
          have e1 : fc_lI prev (a :: A) = nI y := by
            rw [h0]; exact fc_lIa (l := a :: A')
          rw [e1] at z
          have hy : y < 6 := hA y (by rw [h0]; simp)
          have : a = y := (nI_eq (by omega) (by omega)).mp z
          exact hn.1 (by rw [this, h0]; simp)
/-- p joins at the end -/
theorem fc_DLj {la so la' so' : Nat → Int32} {p : Nat} (hp : la' p = -1) : ∀ {L : List Nat} {prev : Int32}, fc_DL la so prev L → p ∉ L → L.Nodup → so' p = fc_lI prev L → (∀ x, x ∈ L → so' x = so x) → (∀ A y, L = A ++ [y] → la' y = nI p) → (∀ A x B, L = A ++ x :: B → B ≠ [] → la' x = la x) → fc_DL la' so' prev (L ++ [p])
  | [], prev, _, _, _, h1, _, _, _ => ⟨h1, hp, trivial⟩
  | a :: L, prev, h, hn, hd, h1, h2, h3, h4 => by
    rw [List.nodup_cons] at hd
    refine ⟨(h2 a List.mem_cons_self).trans h.1, ?_, fc_DLj hp h.2.2 (fun z => hn (List.mem_cons_of_mem _ z)) hd.2 h1 (fun x hx => h2 x (List.mem_cons_of_mem _ hx)) (fun A y e => h3 (a :: A) y (by rw [e]; rfl)) (fun A x B e hB => h4 (a :: A) x B (by rw [e]; rfl) hB)⟩
    by_cases hL : L = []
    · subst hL
      exact h3 [] a rfl
    · rw [h4 [] a L rfl hL]
      have hh : la a = fa_hd L := h.2.1
      rw [hh]
      exact (fa_hda hL).symm
end
section
/-! the calls on both sides, and the wheel -/
def fc_u {α : Type} (f : Nat → α) (p : Nat) (v : α) : Nat → α := fun x => if x = p then v else f x
theorem fc_us {α : Type} (f : Nat → α) (p : Nat) (v : α) : fc_u f p v p = v := if_pos rfl
theorem fc_un {α : Type} {f : Nat → α} {p x : Nat} {v : α} (h : x ≠ p) : fc_u f p v x = f x := if_neg h
def fc_RC (o : Nat) (cid : Nat → Option Nat) (stt dl : Nat → Nat) (ci cs de xp ys : Nat → Int32) (yd : Nat → Int64) (yp yu : Nat → Int32) : Prop :=
  o ≤ 200 ∧
  (∀ p, p < 6 → cid p = none → ci p = -1 ∧ yu p = 0) ∧
  (∀ p i, p < 6 → cid p = some i → i < o ∧ ci p = nI i ∧ yu p = 1 ∧ 1 ≤ stt p ∧ stt p ≤ 5 ∧ cs p = nI (stt p) ∧ de p = nI (dl p) ∧ dl p < 2 ^ 30 ∧ xp i = nI p ∧ yp i = nI p ∧ ys i = nI (stt p) ∧ yd i = lN (dl p)) ∧
  (∀ i, i < o → (∃ p, p < 6 ∧ cid p = some i) ∨ (xp i = -1 ∧ ys i = 0))
def fc_RW (cid : Nat → Option Nat) (stt dl : Nat → Nat) (WL : Nat → List Nat) (wh we la so : Nat → Int32) : Prop :=
  (∀ w, w < 32 → wh w = fa_hd (WL w) ∧ (∀ A x, WL w = A ++ [x] → we w = nI x) ∧ fc_DL la so (-1) (WL w)) ∧
  (∀ w p, w < 32 → (p ∈ WL w ↔ (p < 6 ∧ (∃ i, cid p = some i) ∧ stt p = 1 ∧ dl p % 32 = w))) ∧
  (∀ w, w < 32 → (WL w).Pairwise (fun a b => ∃ i j, cid a = some i ∧ cid b = some j ∧ i < j))
def fc_pn (cid : Nat → Option Nat) (stt : Nat → Nat) (p : Nat) : Nat := if cid p ≠ none ∧ stt p = 1 then 1 else 0
def fc_pw (cid : Nat → Option Nat) (stt : Nat → Nat) : Nat := fh_sum (fc_pn cid stt) 6
theorem fc_pw6 (cid : Nat → Option Nat) (stt : Nat → Nat) : fc_pw cid stt ≤ 6 := by
  have h : ∀ p, fc_pn cid stt p ≤ 1 := fun p => by unfold fc_pn; split <;> omega
  have h0 := h 0
  have h1 := h 1
  have h2 := h 2
  have h3 := h 3
  have h4 := h 4
  have h5 := h 5
  unfold fc_pw
  simp only [fh_sum]
  omega
section
variable {o : Nat} {cid : Nat → Option Nat} {stt dl : Nat → Nat} {WL : Nat → List Nat} {ci cs de xp ys : Nat → Int32} {yd : Nat → Int64} {yp yu wh we la so : Nat → Int32}
theorem fc_inj (h : fc_RC o cid stt dl ci cs de xp ys yd yp yu) {p q i : Nat} (hp : p < 6) (hq : q < 6) (h1 : cid p = some i) (h2 : cid q = some i) : p = q := by
  have a := (h.2.2.1 p i hp h1).2.2.2.2.2.2.2.2.1
  have b := (h.2.2.1 q i hq h2).2.2.2.2.2.2.2.2.1
  rw [a] at b
  exact (nI_eq (by omega) (by omega)).mp b
theorem fc_nd (h : fc_RW cid stt dl WL wh we la so) {w : Nat} (hw : w < 32) : (WL w).Nodup := by
  refine List.Pairwise.imp ?_ (h.2.2 w hw)
  rintro a b ⟨i, j, h1, h2, h3⟩ e
  subst e
  rw [h1] at h2
  cases h2
  omega
theorem fc_bk (h : fc_RW cid stt dl WL wh we la so) {w w' x : Nat} (hw : w < 32) (hw' : w' < 32) (h1 : x ∈ WL w) (h2 : x ∈ WL w') : w = w' := by
  have a := ((h.2.1 w x hw).mp h1).2.2.2
  have b := ((h.2.1 w' x hw').mp h2).2.2.2
  omega
theorem fc_RCend (h : fc_RC o cid stt dl ci cs de xp ys yd yp yu) {p i k : Nat} (hp : p < 6) (hi : cid p = some i) (hk1 : 1 ≤ k) (hk : k ≤ 5) : fc_RC o cid (fc_u stt p k) dl ci (upd cs p (nI k)) de xp (upd ys i (nI k)) yd yp yu := by
  refine ⟨h.1, h.2.1, fun q j hq hj => ?_, fun j hj => ?_⟩
  · obtain ⟨a1, a2, a3, a4, a5, a6, a7, a8, a9, a10, a11, a12⟩ := h.2.2.1 q j hq hj
    by_cases e : q = p
    · subst e
      rw [hi] at hj
      cases hj
      rw [fc_us, pk_us, pk_us]
      exact ⟨a1, a2, a3, hk1, hk, rfl, a7, a8, a9, a10, rfl, a12⟩
    · have e2 : j ≠ i := fun z => e (fc_inj h hq hp (z ▸ hj) hi)
      rw [fc_un e, pk_un e, pk_un e2]
      exact ⟨a1, a2, a3, a4, a5, a6, a7, a8, a9, a10, a11, a12⟩
  · rcases h.2.2.2 j hj with a | ⟨a1, a2⟩
    · exact Or.inl a
    · by_cases e : j = i
      · subst e; exact Or.inl ⟨p, hp, hi⟩
      · exact Or.inr ⟨a1, (pk_un e).trans a2⟩
theorem fc_pwend {p i k : Nat} (hp : p < 6) (hi : cid p = some i) (h1 : stt p = 1) (hk : k ≠ 1) : fc_pw cid (fc_u stt p k) + 1 = fc_pw cid stt := by
  have h := fh_sumU (g := fc_pn cid stt) (g' := fc_pn cid (fc_u stt p k)) (j := p) (n := 6) hp (fun x _ hx => by unfold fc_pn; rw [fc_un hx])
  have e1 : fc_pn cid stt p = 1 := if_pos ⟨by rw [hi]; simp, h1⟩
  have e2 : fc_pn cid (fc_u stt p k) p = 0 := if_neg (fun z => hk (by rw [← fc_us stt p k]; exact z.2))
  unfold fc_pw
  omega
theorem fc_RWrem {wh' we' la' so' : Nat → Int32} (h : fc_RW cid stt dl WL wh we la so) {p i k : Nat} {A D : List Nat} (hp : p < 6) (hi : cid p = some i) (hk : k ≠ 1) (hW : WL (dl p % 32) = A ++ p :: D)
    (hwh : ∀ z, wh' z = if z = dl p % 32 ∧ A = [] then fa_hd D else wh z) (hwe : ∀ z, we' z = if z = dl p % 32 ∧ D = [] then so p else we z)
    (hla : ∀ x, la' x = if nI x = fc_lI (-1) A ∧ x < 6 ∧ A ≠ [] then la p else la x) (hso : ∀ x, so' x = if nI x = fa_hd D ∧ x < 6 then so p else so x) :
    fc_RW cid (fc_u stt p k) dl (fh_up WL (dl p % 32) (A ++ D)) wh' we' la' so' := by
  have hw : dl p % 32 < 32 := Nat.mod_lt _ (by decide)
  have hnd := fc_nd h hw
  have h6 : ∀ x, x ∈ WL (dl p % 32) → x < 6 := fun x hx => ((h.2.1 _ x hw).mp hx).1
  rw [hW] at hnd h6
  have hpA : p ∉ A := by
    intro z
    have := (List.nodup_append.mp hnd).2.2 p z p List.mem_cons_self
    exact this rfl
  have hpD : p ∉ D := by
    have := (List.nodup_append.mp hnd).2.1
    exact (List.nodup_cons.mp this).1
  refine ⟨fun w hw' => ?_, fun w q hw' => ?_, fun w hw' => ?_⟩
  · by_cases e : w = dl p % 32
    · subst e
      obtain ⟨b1, b2, b3⟩ := h.1 _ hw
      rw [hW] at b1 b2 b3
      rw [fh_up_s]
      refine ⟨?_, fun A' x hx => ?_, fc_DLr hso (fun x hx => h6 x (by simp [hx])) b3 hnd (fun x hx => h6 x (by simp [hx])) hla⟩
      · rw [hwh]
        by_cases hA : A = []
        · subst hA; rw [if_pos ⟨rfl, rfl⟩]; rfl
        · rw [if_neg (fun z => hA z.2), b1, fa_hda hA, fa_hda hA]
      · rw [hwe]
        by_cases hD : D = []
        · subst hD
          rw [if_pos ⟨rfl, rfl⟩, (fc_DLm b3).1]
          rw [List.append_nil] at hx
          rw [hx]
          exact fc_lIa
        · rw [if_neg (fun z => hD z.2)]
          rcases List.eq_nil_or_concat D with h0 | ⟨D', y, h0⟩
          · exact absurd h0 hD
          · rw [List.concat_eq_append] at h0
            have ex : x = y := by
              rw [h0, ← List.append_assoc] at hx
              have := (List.append_inj' hx rfl).2
              rw [List.cons_eq_cons] at this
              exact this.1.symm
            rw [ex]
            exact b2 (A ++ p :: D') y (by rw [h0]; simp)
    · obtain ⟨b1, b2, b3⟩ := h.1 w hw'
      rw [fh_up_n e]
      refine ⟨by rw [hwh, if_neg (fun z => e z.1)]; exact b1, fun A' x hx => by rw [hwe, if_neg (fun z => e z.1)]; exact b2 A' x hx, fc_DLc b3 (fun x hx => ⟨?_, ?_⟩)⟩
      · rw [hla, if_neg]
        rintro ⟨z1, z2, z3⟩
        rcases List.eq_nil_or_concat A with h0 | ⟨A', y, h0⟩
        · exact z3 h0
        · rw [List.concat_eq_append] at h0
          rw [h0, fc_lIa] at z1
          have hy := h6 y (by rw [h0]; simp)
          have ex : x = y := (nI_eq (by omega) (by omega)).mp z1
          exact e (fc_bk h hw' hw hx (by rw [hW, h0, ex]; simp))
      · rw [hso, if_neg]
        rintro ⟨z1, z2⟩
        match D, hW, z1, h6 with
        | [], _, z1, _ => exact fa_m1n (by omega) z1
        | d :: D', hW, z1, h6 =>
          have hd := h6 d (by simp)
          have ex : x = d := (nI_eq (by omega) (by omega)).mp z1
          exact e (fc_bk h hw' hw hx (by rw [hW, ex]; simp))
  · have hm := h.2.1 w q hw'
    by_cases eq : q = p
    · subst eq
      rw [fc_us]
      constructor
      · intro hx
        exfalso
        by_cases e : w = dl q % 32
        · subst e
          rw [fh_up_s, List.mem_append] at hx
          exact hx.elim hpA hpD
        · rw [fh_up_n e] at hx
          exact e (hm.mp hx).2.2.2.symm
      · rintro ⟨_, _, z, _⟩
        exact absurd z hk
    · rw [fc_un eq, ← hm]
      by_cases e : w = dl p % 32
      · subst e
        rw [fh_up_s, hW, List.mem_append, List.mem_append, List.mem_cons]
        constructor
        · exact fun z => z.imp id Or.inr
        · exact fun z => z.imp id (fun y => y.resolve_left eq)
      · rw [fh_up_n e]
  · by_cases e : w = dl p % 32
    · subst e
      rw [fh_up_s]
      have := h.2.2 _ hw
      rw [hW] at this
      exact List.Pairwise.sublist (List.Sublist.append_left (List.sublist_cons_self p D) A) this
    · rw [fh_up_n e]; exact h.2.2 w hw'
theorem fc_RWjoin {wh' we' la' so' : Nat → Int32} (h : fc_RW cid stt dl WL wh we la so) {p i d : Nat} (hp : p < 6) (hn : cid p = none) (hi : ∀ q j, q < 6 → cid q = some j → j < i)
    (hwh : ∀ z, wh' z = if z = d % 32 ∧ WL (d % 32) = [] then nI p else wh z) (hwe : ∀ z, we' z = if z = d % 32 then nI p else we z)
    (hla : ∀ x, la' x = if nI x = fc_lI (-1) (WL (d % 32)) ∧ x < 6 ∧ WL (d % 32) ≠ [] then nI p else if x = p then -1 else la x) (hso : ∀ x, so' x = if x = p then fc_lI (-1) (WL (d % 32)) else so x) :
    fc_RW (fc_u cid p (some i)) (fc_u stt p 1) (fc_u dl p d) (fh_up WL (d % 32) (WL (d % 32) ++ [p])) wh' we' la' so' := by
  have hw : d % 32 < 32 := Nat.mod_lt _ (by decide)
  have hnp : ∀ w, w < 32 → p ∉ WL w := fun w hw' hx => by
    obtain ⟨_, ⟨j, hj⟩, _⟩ := (h.2.1 w p hw').mp hx
    rw [hn] at hj; cases hj
  have h6 : ∀ x w, w < 32 → x ∈ WL w → x < 6 := fun x w hw' hx => ((h.2.1 _ x hw').mp hx).1
  have hnd := fc_nd h hw
  have lst : ∀ A y, WL (d % 32) = A ++ [y] → fc_lI (-1) (WL (d % 32)) = nI y := fun A y e => by rw [e]; exact fc_lIa
  have hpl : ¬ (nI p = fc_lI (-1) (WL (d % 32)) ∧ p < 6 ∧ WL (d % 32) ≠ []) := by
    rintro ⟨z1, _, z3⟩
    rcases List.eq_nil_or_concat (WL (d % 32)) with h0 | ⟨A', y, h0⟩
    · exact z3 h0
    · rw [List.concat_eq_append] at h0
      rw [lst A' y h0] at z1
      have hy := h6 y _ hw (by rw [h0]; simp)
      have ex : p = y := (nI_eq (by omega) (by omega)).mp z1
      exact hnp _ hw (by rw [h0, ex]; simp)
  refine ⟨fun w hw' => ?_, fun w q hw' => ?_, fun w hw' => ?_⟩
  · by_cases e : w = d % 32
    · subst e
      obtain ⟨b1, b2, b3⟩ := h.1 _ hw
      rw [fh_up_s]
      refine ⟨?_, fun A' x hx => ?_, fc_DLj (by rw [hla, if_neg hpl, if_pos rfl]) b3 (hnp _ hw) hnd (by rw [hso, if_pos rfl]) (fun x hx => by rw [hso, if_neg (fun z : x = p => hnp _ hw (z ▸ hx))]) (fun A y ey => ?_) (fun A x Bs ey hB => ?_)⟩
      · rw [hwh]
        by_cases hA : WL (d % 32) = []
        · rw [if_pos ⟨rfl, hA⟩, hA]; rfl
        · rw [if_neg (fun z => hA z.2), b1]; exact (fa_hda hA).symm
      · rw [hwe, if_pos rfl]
        have := (List.append_inj' hx rfl).2
        rw [List.cons_eq_cons] at this
        rw [this.1]
      · have hy := h6 y _ hw (by rw [ey]; simp)
        rw [hla, if_pos ⟨(lst A y ey).symm, hy, by rw [ey]; simp⟩]
      · have hx6 := h6 x _ hw (by rw [ey]; simp)
        have hxp : x ≠ p := fun z => hnp _ hw (by rw [ey, z]; simp)
        rw [hla, if_neg, if_neg hxp]
        rintro ⟨z1, _, _⟩
        rcases List.eq_nil_or_concat Bs with h0 | ⟨B', y, h0⟩
        · exact hB h0
        · rw [List.concat_eq_append] at h0
          have ey2 : WL (d % 32) = (A ++ x :: B') ++ [y] := by rw [ey, h0]; simp
          rw [lst _ y ey2] at z1
          have hy := h6 y _ hw (by rw [ey2]; simp)
          have ex : x = y := (nI_eq (by omega) (by omega)).mp z1
          rw [ey2] at hnd
          have := (List.nodup_append.mp hnd).2.2 x (by simp) y (by simp)
          exact this ex
    · obtain ⟨b1, b2, b3⟩ := h.1 w hw'
      rw [fh_up_n e]
      refine ⟨by rw [hwh, if_neg (fun z => e z.1)]; exact b1, fun A' x hx => by rw [hwe, if_neg e]; exact b2 A' x hx, fc_DLc b3 (fun x hx => ⟨?_, ?_⟩)⟩
      · have hxp : x ≠ p := fun z => hnp w hw' (z ▸ hx)
        rw [hla, if_neg, if_neg hxp]
        rintro ⟨z1, z2, z3⟩
        rcases List.eq_nil_or_concat (WL (d % 32)) with h0 | ⟨A', y, h0⟩
        · exact z3 h0
        · rw [List.concat_eq_append] at h0
          rw [lst A' y h0] at z1
          have hy := h6 y _ hw (by rw [h0]; simp)
          have ex : x = y := (nI_eq (by omega) (by omega)).mp z1
          exact e (fc_bk h hw' hw hx (by rw [h0, ex]; simp))
      · rw [hso, if_neg (fun z : x = p => hnp w hw' (z ▸ hx))]
  · have hm := h.2.1 w q hw'
    by_cases eq : q = p
    · subst eq
      rw [fc_us, fc_us, fc_us]
      constructor
      · intro hx
        by_cases e : w = d % 32
        · exact ⟨hp, ⟨i, rfl⟩, rfl, e.symm⟩
        · rw [fh_up_n e] at hx; exact absurd hx (hnp w hw')
      · rintro ⟨_, _, _, z⟩
        rw [z, fh_up_s]; simp
    · rw [fc_un eq, fc_un eq, fc_un eq, ← hm]
      by_cases e : w = d % 32
      · subst e
        rw [fh_up_s, List.mem_append, List.mem_singleton]
        exact ⟨fun z => z.resolve_right eq, Or.inl⟩
      · rw [fh_up_n e]
  · have base : ∀ w, w < 32 → (WL w).Pairwise (fun a b => ∃ i' j, fc_u cid p (some i) a = some i' ∧ fc_u cid p (some i) b = some j ∧ i' < j) := by
      intro w hw'
      refine List.Pairwise.imp_of_mem ?_ (h.2.2 w hw')
      intro a b ha hb hab
      rw [fc_un (fun z : a = p => hnp w hw' (z ▸ ha)), fc_un (fun z : b = p => hnp w hw' (z ▸ hb))]
      exact hab
    by_cases e : w = d % 32
    · subst e
      rw [fh_up_s, List.pairwise_append]
      refine ⟨base _ hw, List.pairwise_singleton _ _, fun a ha b hb => ?_⟩
      rw [List.mem_singleton] at hb
      subst hb
      obtain ⟨ha6, ⟨j, hj⟩, _⟩ := (h.2.1 _ a hw).mp ha
      rw [fc_us, fc_un (fun z : a = b => hnp _ hw (z ▸ ha))]
      exact ⟨j, i, hj, rfl, hi a j ha6 hj⟩
    · rw [fh_up_n e]; exact base w hw'
end
end
section
/-! walks over calls -/
theorem fa_m32 {a : Nat} (ha : a < 2 ^ 32) : nI a &&& 31 = nI (a % 32) := pk_andN ha 5 (by decide)
theorem fa_nbhd {l : List Nat} (h : ∀ x, x ∈ l → x < 128) : vp_nar .byte (fa_hd l) = fa_hd l := by
  match l with
  | [] => exact fa_mb
  | x :: r => exact fa_nb' (h x List.mem_cons_self)
theorem fc_lIn {l : List Nat} (h : ∀ x, x ∈ l → x < 128) : vp_nar .byte (fc_lI (-1) l) = fc_lI (-1) l := by
  rcases List.eq_nil_or_concat l with h0 | ⟨A, y, h0⟩
  · rw [h0]; exact fa_mb
  · rw [List.concat_eq_append] at h0
    rw [h0, fc_lIa]
    exact fa_nb' (h y (by rw [h0]; simp))
section
variable {f_begun f_opened f_waiting f_time f_completions f_dropped f_free f_state f_taken f_fault f_frameCall f_at f_level f_packEnd f_shift f_need f_entry f_number : Int32} {f_acc : Int64} {a_schema a_callId a_callState a_deadline a_callRoot a_placeOf a_wheel a_wheelEnd a_later a_sooner a_done a_next a_first a_last a_fieldOf : Nat → Int32} {a_val : Nat → Int64} {a_endAt a_typeOf a_cellOf : Nat → Int32} {o : Nat} {cid : Nat → Option Nat} {stt dl : Nat → Nat} {WL : Nat → List Nat}
theorem fc_comp {post : SX → Prop} {p i k w cp : Nat} {A D : List Nat} (h : fc_RW cid stt dl WL a_wheel a_wheelEnd a_later a_sooner) (hp : p < 6) (hi : cid p = some i) (hi2 : i < 200) (hk : k ≠ 1) (hk5 : k ≤ 5) (hde : a_deadline p = nI (dl p)) (hd2 : dl p < 2 ^ 30) (hci : a_callId p = nI i) (hW : WL (dl p % 32) = A ++ p :: D) (hcp : cp < 2 ^ 31)
    (K : ∀ wh' we' la' so', fc_RW cid (fc_u stt p k) dl (fh_up WL (dl p % 32) (A ++ D)) wh' we' la' so' → post (f_begun, f_opened, nI w, f_time, nI (cp + 1), f_dropped, f_free, f_state, f_taken, f_fault, f_frameCall, f_at, f_level, f_packEnd, f_shift, f_need, f_entry, f_number, f_acc, a_schema, a_callId, upd a_callState p (nI k), a_deadline, a_callRoot, a_placeOf, wh', we', la', so', upd a_done (cp % 32) (nI i), a_next, a_first, a_last, a_fieldOf, a_val, a_endAt, a_typeOf, a_cellOf)) :
    wpX_complete post (f_begun, f_opened, nI (w + 1), f_time, nI cp, f_dropped, f_free, f_state, f_taken, f_fault, f_frameCall, f_at, f_level, f_packEnd, f_shift, f_need, f_entry, f_number, f_acc, a_schema, a_callId, a_callState, a_deadline, a_callRoot, a_placeOf, a_wheel, a_wheelEnd, a_later, a_sooner, a_done, a_next, a_first, a_last, a_fieldOf, a_val, a_endAt, a_typeOf, a_cellOf) (nI p) (nI k) := by
  have hw : dl p % 32 < 32 := Nat.mod_lt _ (by decide)
  have ip : vp_in (nI p) 6 := vp_in_nI hp (by decide)
  have ec : (nI p).toNatClampNeg = p := nI_clamp (by omega)
  have iw : vp_in (nI (dl p % 32)) 32 := vp_in_nI hw (by decide)
  have ew : (nI (dl p % 32)).toNatClampNeg = dl p % 32 := nI_clamp (by omega)
  obtain ⟨b1, b2, b3⟩ := h.1 _ hw
  have h6 : ∀ x, x ∈ WL (dl p % 32) → x < 6 := fun x hx => ((h.2.1 _ x hw).mp hx).1
  rw [hW] at b3 h6
  obtain ⟨ms, ml⟩ := fc_DLm b3
  have hA6 : ∀ x, x ∈ A → x < 128 := fun x hx => by have := h6 x (by simp [hx]); omega
  have hD6 : ∀ x, x ∈ D → x < 128 := fun x hx => by have := h6 x (by simp [hx]); omega
  have nl : vp_nar .byte (a_later p) = a_later p := by rw [ml]; exact fa_nbhd hD6
  have ns : vp_nar .byte (a_sooner p) = a_sooner p := by rw [ms]; exact fc_lIn hA6
  have fin : ∀ wh' we' la' so', fc_RW cid (fc_u stt p k) dl (fh_up WL (dl p % 32) (A ++ D)) wh' we' la' so' → wX_complete_92 post (nI p) (nI k) f_begun f_opened (nI (w + 1)) f_time (nI cp) f_dropped f_free f_state f_taken f_fault f_frameCall f_at f_level f_packEnd f_shift f_need f_entry f_number f_acc a_schema a_callId a_callState a_deadline a_callRoot a_placeOf wh' we' la' so' a_done a_next a_first a_last a_fieldOf a_val a_endAt a_typeOf a_cellOf := by
    intro wh' we' la' so' hR
    have e31 : nI cp &&& 31 = nI (cp % 32) := fa_m32 (by omega)
    have hm : cp % 32 < 32 := Nat.mod_lt _ (by decide)
    refine And.intro ip (nm_r (e' := upd a_callState p (nI k)) (by rw [ec, fa_nb (by omega)]) (nm_r (nI_1 cp) (And.intro ip (And.intro ?_ (nm_r (e' := upd a_done (cp % 32) (nI i)) ?_ (nm_r (nI_pred w) (K wh' we' la' so' hR)))))))
    · rw [e31]; exact vp_in_nI hm (by decide)
    · rw [e31, ec, hci, nI_clamp (by omega), fa_ns' (by omega)]
  have go : ∀ wh' la', (∀ z, wh' z = if z = dl p % 32 ∧ A = [] then fa_hd D else a_wheel z) → (∀ x, la' x = if nI x = fc_lI (-1) A ∧ x < 6 ∧ A ≠ [] then a_later p else a_later x) → la' p = a_later p → wX_complete_51 post (nI p) (nI k) (nI (dl p % 32)) f_begun f_opened (nI (w + 1)) f_time (nI cp) f_dropped f_free f_state f_taken f_fault f_frameCall f_at f_level f_packEnd f_shift f_need f_entry f_number f_acc a_schema a_callId a_callState a_deadline a_callRoot a_placeOf wh' a_wheelEnd la' a_sooner a_done a_next a_first a_last a_fieldOf a_val a_endAt a_typeOf a_cellOf := by
    intro wh' la' g1 g2 g3
    refine And.intro ip ?_
    rw [ec, g3, ml]
    match hDD : D with
    | [] =>
      refine br_f (by decide) (And.intro ip (And.intro iw (nm_r (e' := upd a_wheelEnd (dl p % 32) (a_sooner p)) (by rw [ew, ns]) ?_)))
      refine fin _ _ _ _ (fc_RWrem h hp hi hk hW g1 (fun z => ?_) g2 (fun x => ?_))
      · unfold upd
        by_cases e : z = dl p % 32
        · rw [if_pos e, if_pos ⟨e, hDD⟩]
        · rw [if_neg e, if_neg (fun y => e y.1)]
      · rw [if_neg]
        rintro ⟨z1, z2⟩
        rw [hDD] at z1
        exact fa_m1n (n := x) (by omega) z1
    | d :: D' =>
      have hd6 : d < 6 := h6 d (by rw [hDD]; simp)
      refine br_t (nI_pos' (by omega)) (And.intro ip (And.intro ip (And.intro (vp_in_nI hd6 (by decide)) (nm_r (e' := upd a_sooner d (a_sooner p)) ?_ ?_))))
      · have : (fa_hd (d :: D')).toNatClampNeg = d := nI_clamp (by omega)
        rw [this, ns]
      · refine fin _ _ _ _ (fc_RWrem h hp hi hk hW g1 (fun z => ?_) g2 (fun x => ?_))
        · rw [if_neg (fun z => absurd z.2 (by rw [hDD]; simp))]
        · unfold upd
          by_cases e : x = d
          · rw [if_pos e, if_pos ⟨by rw [e, hDD]; rfl, by omega⟩]
          · rw [if_neg e, if_neg]
            rintro ⟨z1, z2⟩
            rw [hDD] at z1
            exact e ((nI_eq (by omega) (by omega)).mp z1)
  refine And.intro ip (nm_r (e' := nI (dl p % 32)) (by rw [ec, hde, fa_m32 (by omega)]) (And.intro ip ?_))
  rw [ec, ms]
  rcases List.eq_nil_or_concat A with h0 | ⟨A', y, h0⟩
  · rw [h0]
    refine br_f (by decide) (And.intro ip (And.intro iw (nm_r (e' := upd a_wheel (dl p % 32) (fa_hd D)) (by rw [ew, nl, ml]) ?_)))
    refine go _ _ (fun z => ?_) (fun x => ?_) rfl
    · unfold upd
      by_cases e : z = dl p % 32
      · rw [if_pos e, if_pos ⟨e, h0⟩]
      · rw [if_neg e, if_neg (fun y => e y.1)]
    · rw [if_neg (fun z => z.2.2 h0)]
  · rw [List.concat_eq_append] at h0
    have hy6 : y < 6 := h6 y (by rw [h0]; simp)
    have el : fc_lI (-1) A = nI y := by rw [h0]; exact fc_lIa
    have hne : A ≠ [] := by rw [h0]; simp
    have hpy : p ≠ y := by
      have hnd := fc_nd h hw
      rw [hW, h0] at hnd
      have := (List.nodup_append.mp hnd).2.2 y (by simp) p (by simp)
      exact fun z => this z.symm
    rw [el]
    refine br_t (nI_pos' (by omega)) (And.intro ip (And.intro ip (And.intro (vp_in_nI hy6 (by decide)) (nm_r (e' := upd a_later y (a_later p)) (by rw [nI_clamp (by omega), nl]) ?_))))
    refine go _ _ (fun z => ?_) (fun x => ?_) (pk_un hpy)
    · rw [if_neg (fun z => hne z.2)]
    · rw [el]
      unfold upd
      by_cases e : x = y
      · rw [if_pos e, if_pos ⟨by rw [e], by omega, hne⟩]
      · rw [if_neg e, if_neg]
        rintro ⟨z1, z2, _⟩
        exact e ((nI_eq (by omega) (by omega)).mp z1)
theorem fc_enl {post : SX → Prop} {p i d : Nat} (h : fc_RW cid stt dl WL a_wheel a_wheelEnd a_later a_sooner) (hp : p < 6) (hn : cid p = none) (hi : ∀ q j, q < 6 → cid q = some j → j < i) (hde : a_deadline p = nI d) (hd2 : d < 2 ^ 30)
    (K : ∀ wh' we' la' so', fc_RW (fc_u cid p (some i)) (fc_u stt p 1) (fc_u dl p d) (fh_up WL (d % 32) (WL (d % 32) ++ [p])) wh' we' la' so' → post (f_begun, f_opened, f_waiting, f_time, f_completions, f_dropped, f_free, f_state, f_taken, f_fault, f_frameCall, f_at, f_level, f_packEnd, f_shift, f_need, f_entry, f_number, f_acc, a_schema, a_callId, a_callState, a_deadline, a_callRoot, a_placeOf, wh', we', la', so', a_done, a_next, a_first, a_last, a_fieldOf, a_val, a_endAt, a_typeOf, a_cellOf)) : wpX_enlist post (f_begun, f_opened, f_waiting, f_time, f_completions, f_dropped, f_free, f_state, f_taken, f_fault, f_frameCall, f_at, f_level, f_packEnd, f_shift, f_need, f_entry, f_number, f_acc, a_schema, a_callId, a_callState, a_deadline, a_callRoot, a_placeOf, a_wheel, a_wheelEnd, a_later, a_sooner, a_done, a_next, a_first, a_last, a_fieldOf, a_val, a_endAt, a_typeOf, a_cellOf) (nI p) := by
  have hw : d % 32 < 32 := Nat.mod_lt _ (by decide)
  have ip : vp_in (nI p) 6 := vp_in_nI hp (by decide)
  have ec : (nI p).toNatClampNeg = p := nI_clamp (by omega)
  have iw : vp_in (nI (d % 32)) 32 := vp_in_nI hw (by decide)
  have ew : (nI (d % 32)).toNatClampNeg = d % 32 := nI_clamp (by omega)
  obtain ⟨b1, b2, b3⟩ := h.1 _ hw
  have h6 : ∀ x, x ∈ WL (d % 32) → x < 6 := fun x hx => ((h.2.1 _ x hw).mp hx).1
  have hnp : p ∉ WL (d % 32) := fun hx => by
    obtain ⟨_, ⟨j, hj⟩, _⟩ := (h.2.1 _ p hw).mp hx
    rw [hn] at hj; cases hj
  have ep : vp_nar .byte (nI p).toInt8.toInt32 = nI p := fa_nb (by omega)
  refine And.intro ip (nm_r (e' := nI (d % 32)) (by rw [ec, hde, fa_m32 (by omega)]) (And.intro ip (nm_r (e' := upd a_later p (-1)) (by rw [ec, fa_mb]) (And.intro iw ?_))))
  rw [ew, b1]
  rcases List.eq_nil_or_concat (WL (d % 32)) with h0 | ⟨A', y, h0⟩
  · rw [h0]
    refine br_f (by decide) (And.intro ip (nm_r (e' := upd a_sooner p (-1)) (by rw [ec, fa_mb]) (And.intro iw ?_)))
    rw [ew, b1, h0]
    refine br_f (by decide) (And.intro iw (nm_r (e' := upd a_wheel (d % 32) (nI p)) (by rw [ep]) (And.intro iw (nm_r (e' := upd a_wheelEnd (d % 32) (nI p)) (by rw [ep]) (K _ _ _ _ (fc_RWjoin h hp hn hi (fun z => ?_) (fun z => rfl) (fun x => ?_) (fun x => ?_)))))))
    · unfold upd
      by_cases e : z = d % 32
      · rw [if_pos e, if_pos ⟨e, h0⟩]
      · rw [if_neg e, if_neg (fun y => e y.1)]
    · rw [if_neg (fun z => z.2.2 h0)]; rfl
    · rw [h0]; rfl
  · rw [List.concat_eq_append] at h0
    have hy6 : y < 6 := h6 y (by rw [h0]; simp)
    have hne : WL (d % 32) ≠ [] := by rw [h0]; simp
    have el : fc_lI (-1) (WL (d % 32)) = nI y := by rw [h0]; exact fc_lIa
    have ee : a_wheelEnd (d % 32) = nI y := b2 A' y h0
    have hpos : 0 ≤ fa_hd (WL (d % 32)) := by
      match hL : WL (d % 32) with
      | [] => exact absurd hL hne
      | x :: r => have := h6 x (by rw [hL]; simp); exact nI_pos' (by omega)
    have hpy : y ≠ p := fun z => hnp (by rw [h0, z]; simp)
    refine br_t hpos (And.intro iw (And.intro ip (nm_r (e' := upd a_sooner p (nI y)) (by rw [ec, ee, fa_nb' (by omega)]) (And.intro iw ?_))))
    rw [ew, b1]
    refine br_t hpos (And.intro iw (And.intro ?_ (nm_r (e' := upd (upd a_later p (-1)) y (nI p)) ?_ (And.intro iw (nm_r (e' := upd a_wheelEnd (d % 32) (nI p)) (by rw [ep]) (K _ _ _ _ (fc_RWjoin h hp hn hi (fun z => ?_) (fun z => rfl) (fun x => ?_) (fun x => ?_))))))))
    · rw [ee]; exact vp_in_nI hy6 (by decide)
    · rw [ee, nI_clamp (by omega), ep]
    · rw [if_neg (fun z => hne z.2)]
    · rw [el]
      unfold upd
      by_cases e : x = y
      · rw [if_pos e, if_pos ⟨by rw [e], by omega, hne⟩]
      · have hne2 : ¬ (nI x = nI y ∧ x < 6 ∧ WL (d % 32) ≠ []) := by
          rintro ⟨z1, z2, _⟩
          exact e ((nI_eq (by omega) (by omega)).mp z1)
        rw [if_neg e, if_neg hne2]
    · rw [el]; rfl
theorem fc_find {post : Int32 → Prop} {o : Nat} {x : Int32} (ho : o ≤ 200) (K1 : (x < 0 ∨ nI o ≤ x) → post (-1)) (K2 : ∀ i, i < o → x = nI i → post (a_placeOf i)) : wpX_find post (f_begun, nI o, f_waiting, f_time, f_completions, f_dropped, f_free, f_state, f_taken, f_fault, f_frameCall, f_at, f_level, f_packEnd, f_shift, f_need, f_entry, f_number, f_acc, a_schema, a_callId, a_callState, a_deadline, a_callRoot, a_placeOf, a_wheel, a_wheelEnd, a_later, a_sooner, a_done, a_next, a_first, a_last, a_fieldOf, a_val, a_endAt, a_typeOf, a_cellOf) x := by
  refine br_c (fun h => K1 (Or.inl h)) (fun h => br_c (fun h2 => ?_) (fun h2 => K1 (Or.inr (Int32.not_lt.mp h2))))
  obtain ⟨i, hi, rfl⟩ := nI_of h
  have h3 := (nI_ltI hi (by omega)).mp h2
  refine And.intro (vp_in_nI (by omega) (by decide)) ?_
  rw [nI_clamp hi]
  exact K2 i h3 rfl
end
section
variable {g_begun g_opened : Int32} {g_now : Int64} {g_endings g_lost g_got g_taken g_fault g_at g_there g_source : Int32} {g_varint : Int64} {g_found : Int32} {b_kinds b_extras b_state : Nat → Int32} {b_due : Nat → Int64} {b_placeOf b_used b_bodies b_sizes b_ended b_frame : Nat → Int32}
theorem fc_end {post : SY → Prop} {i k cp : Nat} (hi : i < 200) (hk : k ≤ 5) (hcp : cp < 2 ^ 31) (K : post (g_begun, g_opened, g_now, nI (cp + 1), g_lost, g_got, g_taken, g_fault, g_at, g_there, g_source, g_varint, g_found, b_kinds, b_extras, upd b_state i (nI k), b_due, b_placeOf, b_used, b_bodies, b_sizes, upd b_ended (cp % 32) (nI i), b_frame)) : wpY_end post (g_begun, g_opened, g_now, nI cp, g_lost, g_got, g_taken, g_fault, g_at, g_there, g_source, g_varint, g_found, b_kinds, b_extras, b_state, b_due, b_placeOf, b_used, b_bodies, b_sizes, b_ended, b_frame) (nI i) (nI k) := by
  have e31 : nI cp &&& 31 = nI (cp % 32) := fa_m32 (by omega)
  have hm : cp % 32 < 32 := Nat.mod_lt _ (by decide)
  refine And.intro (vp_in_nI hi (by decide)) (nm_r (e' := upd b_state i (nI k)) (by rw [nI_clamp (by omega), fa_nb (by omega)]) (nm_r (nI_1 cp) (And.intro ?_ (nm_r (e' := upd b_ended (cp % 32) (nI i)) ?_ K))))
  · rw [e31]; exact vp_in_nI hm (by decide)
  · rw [e31, nI_clamp (by omega), fa_ns (by omega)]
theorem fc_sta {post : Int32 → Prop} {o : Nat} {x : Int32} (ho : o ≤ 200) (K1 : (x < 0 ∨ nI o ≤ x) → post 0) (K2 : ∀ i, i < o → x = nI i → post (b_state i)) : wpY_status post (g_begun, nI o, g_now, g_endings, g_lost, g_got, g_taken, g_fault, g_at, g_there, g_source, g_varint, g_found, b_kinds, b_extras, b_state, b_due, b_placeOf, b_used, b_bodies, b_sizes, b_ended, b_frame) x := by
  refine br_c (fun h => K1 (Or.inl h)) (fun h => br_c (fun h2 => ?_) (fun h2 => K1 (Or.inr (Int32.not_lt.mp h2))))
  obtain ⟨i, hi, rfl⟩ := nI_of h
  have h3 := (nI_ltI hi (by omega)).mp h2
  refine And.intro (vp_in_nI (by omega) (by decide)) ?_
  rw [nI_clamp hi]
  exact K2 i h3 rfl
/-- the best among the first i calls -/
def fc_BI (b_state : Nat → Int32) (du : Nat → Nat) (nw i : Nat) (x : Int32) : Prop :=
  (x = -1 ∧ ∀ j, j < i → b_state j = 1 → nw < du j) ∨
  (∃ b, b < i ∧ x = nI b ∧ b_state b = 1 ∧ du b ≤ nw ∧ ∀ j, j < i → b_state j = 1 → du j ≤ nw → du b < du j ∨ (du b = du j ∧ b ≤ j))
theorem fc_ear {post : Int32 → Prop} {o nw : Nat} {du : Nat → Nat} (ho : o ≤ 200) (hn : nw < 2 ^ 31) (hd : ∀ j, j < o → b_state j = 1 → b_due j = lN (du j) ∧ du j < 2 ^ 31) (K : ∀ x, fc_BI b_state du nw o x → post x) : wpY_earliest post (g_begun, nI o, lN nw, g_endings, g_lost, g_got, g_taken, g_fault, g_at, g_there, g_source, g_varint, g_found, b_kinds, b_extras, b_state, b_due, b_placeOf, b_used, b_bodies, b_sizes, b_ended, b_frame) := by
  have key : ∀ d i x, i + d = o → fc_BI b_state du nw i x → wY_earliest_4 post g_begun (nI o) (lN nw) g_endings g_lost g_got g_taken g_fault g_at g_there g_source g_varint g_found b_kinds b_extras b_state b_due b_placeOf b_used b_bodies b_sizes b_ended b_frame (d + 1) x (nI i) := by
    intro d
    induction d with
    | zero =>
      intro i x hi hb
      have e : i = o := by omega
      subst e
      exact br_t (nI_le (Nat.le_refl _) (by omega)) (K x hb)
    | succ d ih =>
      intro i x hi hb
      have ii : vp_in (nI i) 200 := vp_in_nI (by omega) (by decide)
      have ei : (nI i).toNatClampNeg = i := nI_clamp (by omega)
      refine br_f (nI_ge (by omega) (by omega)) (And.intro ii ?_)
      rw [ei]
      refine br_c (fun h1 => ?_) (fun h1 => nm_r (nI_1 i) (ih (i + 1) x (by omega) ?_))
      · obtain ⟨hd1, hd2⟩ := hd i (by omega) h1
        refine And.intro ii ?_
        rw [hd1]
        refine br_c (fun hlt => nm_r (nI_1 i) (ih (i + 1) x (by omega) ?_)) (fun hlt => ?_)
        · have hlt' := (lN_lt hn hd2).mp hlt
          rcases hb with ⟨b1, b2⟩ | ⟨b, b1, b2, b3, b4, b5⟩
          · exact Or.inl ⟨b1, fun j hj hs => by
              by_cases e : j = i
              · rw [e]; exact hlt'
              · exact b2 j (by omega) hs⟩
          · exact Or.inr ⟨b, by omega, b2, b3, b4, fun j hj hs hle => by
              by_cases e : j = i
              · rw [e] at hle; omega
              · exact b5 j (by omega) hs hle⟩
        · have hle' : du i ≤ nw := by
            have := mt (lN_lt hn hd2).mpr hlt
            omega
          rcases hb with ⟨b1, b2⟩ | ⟨b, b1, b2, b3, b4, b5⟩
          · rw [b1]
            refine br_t fa_m1l (nm_r (nI_1 i) (ih (i + 1) (nI i) (by omega) (Or.inr ⟨i, by omega, rfl, h1, hle', fun j hj hs hle => ?_⟩)))
            by_cases e : j = i
            · rw [e]; exact Or.inr ⟨rfl, Nat.le_refl _⟩
            · have := b2 j (by omega) hs; omega
          · rw [b2]
            obtain ⟨hb1, hb2⟩ := hd b (by omega) b3
            have ib : vp_in (nI b) 200 := vp_in_nI (by omega) (by decide)
            refine br_f (nI_pos (by omega)) (And.intro ii (And.intro ib ?_))
            rw [nI_clamp (by omega), hb1]
            refine br_c (fun hc => nm_r (nI_1 i) (ih (i + 1) (nI b) (by omega) (Or.inr ⟨b, by omega, rfl, b3, b4, fun j hj hs hle => ?_⟩))) (fun hc => nm_r (nI_1 i) (ih (i + 1) (nI i) (by omega) (Or.inr ⟨i, by omega, rfl, h1, hle', fun j hj hs hle => ?_⟩)))
            · have hc' := (lN_le hb2 hd2).mp hc
              by_cases e : j = i
              · rw [e]; omega
              · exact b5 j (by omega) hs hle
            · have hc' := mt (lN_le hb2 hd2).mpr hc
              by_cases e : j = i
              · rw [e]; omega
              · have := b5 j (by omega) hs hle; omega
      · rcases hb with ⟨b1, b2⟩ | ⟨b, b1, b2, b3, b4, b5⟩
        · exact Or.inl ⟨b1, fun j hj hs => by
            by_cases e : j = i
            · rw [e] at hs; exact absurd hs h1
            · exact b2 j (by omega) hs⟩
        · exact Or.inr ⟨b, by omega, b2, b3, b4, fun j hj hs hle => by
            by_cases e : j = i
            · rw [e] at hs; exact absurd hs h1
            · exact b5 j (by omega) hs hle⟩
  exact ⟨o + 1, key o 0 (-1) (by omega) (Or.inl ⟨rfl, fun j hj => absurd hj (by omega)⟩)⟩
end
end
section
/-! time: both sides in lockstep -/
def fc_YT (postY : Int32 → SY → Prop) (ny c : Nat) (g_begun : Int32) (g_opened : Int32) (g_now : Int64) (g_endings : Int32) (g_lost : Int32) (g_got : Int32) (g_taken : Int32) (g_fault : Int32) (g_at : Int32) (g_there : Int32) (g_source : Int32) (g_varint : Int64) (g_found : Int32) (b_kinds : Nat → Int32) (b_extras : Nat → Int32) (b_state : Nat → Int32) (b_due : Nat → Int64) (b_placeOf : Nat → Int32) (b_used : Nat → Int32) (b_bodies : Nat → Int32) (b_sizes : Nat → Int32) (b_ended : Nat → Int32) (b_frame : Nat → Int32) : Prop := wpY_earliest (fun r => wY_tick_32 postY ny (nI c) r g_begun g_opened g_now g_endings g_lost g_got g_taken g_fault g_at g_there g_source g_varint g_found b_kinds b_extras b_state b_due b_placeOf b_used b_bodies b_sizes b_ended b_frame) (g_begun, g_opened, g_now, g_endings, g_lost, g_got, g_taken, g_fault, g_at, g_there, g_source, g_varint, g_found, b_kinds, b_extras, b_state, b_due, b_placeOf, b_used, b_bodies, b_sizes, b_ended, b_frame)
def fc_du (b_due : Nat → Int64) (j : Nat) : Nat := (b_due j).toInt.toNat
section
variable {o : Nat} {cid : Nat → Option Nat} {stt dl : Nat → Nat} {WL : Nat → List Nat} {ci cs de xp ys : Nat → Int32} {yd : Nat → Int64} {yp yu wh we la so : Nat → Int32}
/-- a pending call's place -/
theorem fc_pl (h : fc_RC o cid stt dl ci cs de xp ys yd yp yu) {j : Nat} (hj : j < o) (h1 : ys j = 1) : ∃ q, q < 6 ∧ cid q = some j ∧ stt q = 1 ∧ yd j = lN (dl q) ∧ fc_du yd j = dl q ∧ dl q < 2 ^ 30 := by
  rcases h.2.2.2 j hj with ⟨q, hq, hc⟩ | ⟨_, h0⟩
  · obtain ⟨a1, a2, a3, a4, a5, a6, a7, a8, a9, a10, a11, a12⟩ := h.2.2.1 q j hq hc
    rw [a11] at h1
    have e := (nI_eq (b := 1) (by omega) (by decide)).mp h1
    refine ⟨q, hq, hc, e, a12, ?_, a8⟩
    unfold fc_du
    rw [a12, pk_lT (by omega)]
    omega
  · rw [h0] at h1; exact absurd h1 (by decide)
theorem fc_pw0 {q i : Nat} (h : fc_pw cid stt = 0) (hq : q < 6) (hc : cid q = some i) : stt q ≠ 1 := by
  intro z
  have h1 := fh_sumL (g := fc_pn cid stt) (j := q) (n := 6) hq
  have e : fc_pn cid stt q = 1 := if_pos ⟨by rw [hc]; simp, z⟩
  unfold fc_pw at h
  omega
end
section
variable {f_begun f_opened f_waiting f_time f_completions f_dropped f_free f_state f_taken f_fault f_frameCall f_at f_level f_packEnd f_shift f_need f_entry f_number : Int32} {f_acc : Int64} {a_schema a_callId a_callState a_deadline a_callRoot a_placeOf a_wheel a_wheelEnd a_later a_sooner a_done a_next a_first a_last a_fieldOf : Nat → Int32} {a_val : Nat → Int64} {a_endAt a_typeOf a_cellOf : Nat → Int32} {b_kinds b_extras : Nat → Int32} {b_due : Nat → Int64} {b_placeOf b_used b_bodies b_sizes b_frame : Nat → Int32} {g_begun g_lost g_got g_taken g_fault g_at g_there g_source g_found : Int32} {g_varint : Int64} {o : Nat} {cid : Nat → Option Nat} {dl : Nat → Nat}
theorem fc_tin {J23 : Int32 → Int32 → Int32 → Int32 → Int32 → Int32 → Int32 → Int32 → Int32 → Int32 → Int32 → Int32 → Int32 → Int32 → Int32 → Int32 → Int32 → Int32 → Int32 → Int64 → (Nat → Int32) → (Nat → Int32) → (Nat → Int32) → (Nat → Int32) → (Nat → Int32) → (Nat → Int32) → (Nat → Int32) → (Nat → Int32) → (Nat → Int32) → (Nat → Int32) → (Nat → Int32) → (Nat → Int32) → (Nat → Int32) → (Nat → Int32) → (Nat → Int32) → (Nat → Int64) → (Nat → Int32) → (Nat → Int32) → (Nat → Int32) → Prop}
    {post : Int32 → SX → Prop} {x3 : Int32} {G : (Int32 → SY → Prop) → Prop} {Q : (Nat → Nat) → Prop} {t nw : Nat} (hQ : ∀ stt p, stt p = 1 → Q stt → Q (fc_u stt p 3)) (htn : t ≤ nw) (hn : nw < 2 ^ 31)
    (K : ∀ (stt : Nat → Nat) (WL : Nat → List Nat) (cs wh we la so dn ys : Nat → Int32) (cp c ny : Nat), Q stt → fc_RC o cid stt dl a_callId cs a_deadline a_placeOf ys b_due b_placeOf b_used → fc_RW cid stt dl WL wh we la so → (∀ q i, q < 6 → cid q = some i → stt q = 1 → t < dl q) → cp + fc_pw cid stt = o → fc_pw cid stt < ny → (∀ postY, fc_YT postY ny c g_begun (nI o) (lN nw) (nI cp) g_lost g_got g_taken g_fault g_at g_there g_source g_varint g_found b_kinds b_extras ys b_due b_placeOf b_used b_bodies b_sizes dn b_frame → G postY) →
      J23 (nI c) f_begun f_opened (nI (fc_pw cid stt)) (nI t) (nI cp) f_dropped f_free f_state f_taken f_fault f_frameCall f_at f_level f_packEnd f_shift f_need f_entry f_number f_acc a_schema a_callId cs a_deadline a_callRoot a_placeOf wh we la so dn a_next a_first a_last a_fieldOf a_val a_endAt a_typeOf a_cellOf) :
    ∀ (R A : List Nat) (stt : Nat → Nat) (WL : Nat → List Nat) (cs wh we la so dn ys : Nat → Int32) (cp c ny n : Nat), Q stt → fc_RC o cid stt dl a_callId cs a_deadline a_placeOf ys b_due b_placeOf b_used → fc_RW cid stt dl WL wh we la so → WL (t % 32) = A ++ R → (∀ a, a ∈ A → dl a ≠ t) → (∀ q i, q < 6 → cid q = some i → stt q = 1 → t ≤ dl q) → cp + fc_pw cid stt = o → fc_pw cid stt < ny → (∀ postY, fc_YT postY ny c g_begun (nI o) (lN nw) (nI cp) g_lost g_got g_taken g_fault g_at g_there g_source g_varint g_found b_kinds b_extras ys b_due b_placeOf b_used b_bodies b_sizes dn b_frame → G postY) → R.length < n →
      wX_tick_59 post J23 x3 n (nI c) (fa_hd R) f_begun f_opened (nI (fc_pw cid stt)) (nI t) (nI cp) f_dropped f_free f_state f_taken f_fault f_frameCall f_at f_level f_packEnd f_shift f_need f_entry f_number f_acc a_schema a_callId cs a_deadline a_callRoot a_placeOf wh we la so dn a_next a_first a_last a_fieldOf a_val a_endAt a_typeOf a_cellOf
  | [], A, stt, WL, cs, wh, we, la, so, dn, ys, cp, c, ny, n, hq0, hC, hW, hL, hA, hP, hcp, hny, HY, hn' => by
    obtain ⟨n, rfl⟩ : ∃ m, n = m + 1 := ⟨n - 1, by simp at hn'; omega⟩
    refine br_t fa_m1l (K stt WL cs wh we la so dn ys cp c ny hq0 hC hW (fun q i hq hc hs => ?_) hcp hny HY)
    have h1 := hP q i hq hc hs
    by_cases e : dl q = t
    · exfalso
      have hm := (hW.2.1 (t % 32) q (Nat.mod_lt _ (by decide))).mpr ⟨hq, ⟨i, hc⟩, hs, by rw [e]⟩
      rw [hL, List.append_nil] at hm
      exact hA q hm e
    · omega
  | p :: R, A, stt, WL, cs, wh, we, la, so, dn, ys, cp, c, ny, n, hq0, hC, hW, hL, hA, hP, hcp, hny, HY, hn' => by
    obtain ⟨n, rfl⟩ : ∃ m, n = m + 1 := ⟨n - 1, by simp at hn'; omega⟩
    have hw : t % 32 < 32 := Nat.mod_lt _ (by decide)
    obtain ⟨hp, ⟨i, hi⟩, hst, hdl⟩ := (hW.2.1 (t % 32) p hw).mp (by rw [hL]; simp)
    obtain ⟨a1, a2, a3, a4, a5, a6, a7, a8, a9, a10, a11, a12⟩ := hC.2.2.1 p i hp hi
    have ho := hC.1
    have ip : vp_in (nI p) 6 := vp_in_nI hp (by decide)
    have ec : (nI p).toNatClampNeg = p := nI_clamp (by omega)
    have b3 := (hW.1 _ hw).2.2
    rw [hL] at b3
    have ml : la p = fa_hd R := (fc_DLm b3).2
    rw [show fa_hd (p :: R) = nI p from rfl]
    refine br_f (nI_pos (by omega)) (And.intro ip (nm_r (e' := fa_hd R) (by rw [ec]; exact ml) (And.intro ip ?_)))
    rw [ec, a7]
    refine pk_eq (dl p) t (fun e => ?_) (fun e => ?_)
    · have hpw := fc_pwend (k := 3) hp hi hst (by decide)
      have hw1 : fc_pw cid stt = fc_pw cid (fc_u stt p 3) + 1 := hpw.symm
      rw [hw1]
      refine fc_comp (A := A) (D := R) hW hp hi (by omega) (by decide) (by decide) a7 (by omega) a2 (by rw [hdl]; exact hL) (by omega) (fun wh' we' la' so' hR => nm_r (nI_1 c) ?_)
      obtain ⟨ny, rfl⟩ : ∃ m, ny = m + 1 := ⟨ny - 1, by omega⟩
      refine fc_tin hQ htn hn K R A (fc_u stt p 3) _ _ wh' we' la' so' (upd dn (cp % 32) (nI i)) (upd ys i (nI 3)) (cp + 1) (c + 1) ny n (hQ stt p hst hq0) (fc_RCend hC hp hi (by decide) (by decide)) hR (by rw [hdl, fh_up_s]) hA (fun q j hq hc hs => ?_) (by omega) (by omega) (fun postY Y => HY postY ?_) (by simp at hn'; omega)
      · by_cases eq : q = p
        · subst eq; rw [fc_us] at hs; exact absurd hs (by decide)
        · rw [fc_un eq] at hs; exact hP q j hq hc hs
      · refine fc_ear (du := fc_du b_due) ho hn (fun j hj h1 => ?_) (fun x hx => ?_)
        · obtain ⟨q, _, _, _, e1, e2, e3⟩ := fc_pl hC hj h1
          rw [e2]; exact ⟨e1, by omega⟩
        · have hi1 : ys i = 1 := by rw [a11, hst]; rfl
          obtain ⟨q0, c1, c2, c3, c4, c5, c6⟩ := fc_pl hC a1 hi1
          have eq0 : q0 = p := fc_inj hC c1 hp c2 hi
          subst eq0
          have hx' : x = nI i := by
            rcases hx with ⟨_, hx⟩ | ⟨b, b1, b2, b3, b4, b5⟩
            · have := hx i a1 hi1; omega
            · obtain ⟨q, d1, d2, d3, d4, d5, d6⟩ := fc_pl hC b1 b3
              have hq := hP q b d1 d2 d3
              have hlex := b5 i a1 hi1 (by omega)
              have hqt : dl q = t := by omega
              have hqm := (hW.2.1 (t % 32) q hw).mpr ⟨d1, ⟨b, d2⟩, d3, by rw [hqt]⟩
              rw [hL, List.mem_append, List.mem_cons] at hqm
              rcases hqm with hqm | hqm | hqm
              · exact absurd hqt (hA q hqm)
              · subst hqm
                rw [hi] at d2
                cases d2
                exact b2
              · have hpw2 := hW.2.2 _ hw
                rw [hL, List.pairwise_append] at hpw2
                have := (List.pairwise_cons.mp hpw2.2.1).1 q hqm
                obtain ⟨i1, j1, f1, f2, f3⟩ := this
                rw [hi] at f1
                rw [d2] at f2
                cases f1
                cases f2
                omega
          rw [hx']
          exact br_f (nI_pos (by omega)) (fc_end (k := 3) (by omega) (by decide) (by omega) (nm_r (nI_1 c) Y))
    · exact fc_tin hQ htn hn K R (A ++ [p]) stt WL cs wh we la so dn ys cp c ny n hq0 hC hW (by rw [hL]; simp) (fun a ha => by
        rw [List.mem_append, List.mem_singleton] at ha
        rcases ha with ha | ha
        · exact hA a ha
        · rw [ha]; exact e) hP hcp hny HY (by simp at hn'; omega)
theorem fc_tout {post : Int32 → SX → Prop} {G : (Int32 → SY → Prop) → Prop} {Q : (Nat → Nat) → Prop} {te : Nat} (hQ : ∀ stt p, stt p = 1 → Q stt → Q (fc_u stt p 3)) (hte : te < 2 ^ 30)
    (K : ∀ (stt : Nat → Nat) (WL : Nat → List Nat) (cs wh we la so dn ys : Nat → Int32) (cp c : Nat), Q stt → fc_RC o cid stt dl a_callId cs a_deadline a_placeOf ys b_due b_placeOf b_used → fc_RW cid stt dl WL wh we la so → (∀ q i, q < 6 → cid q = some i → stt q = 1 → te < dl q) → cp + fc_pw cid stt = o → (∀ postY : Int32 → SY → Prop, postY (nI c) (g_begun, nI o, lN te, nI cp, g_lost, g_got, g_taken, g_fault, g_at, g_there, g_source, g_varint, g_found, b_kinds, b_extras, ys, b_due, b_placeOf, b_used, b_bodies, b_sizes, dn, b_frame) → G postY) →
      post (nI c) (f_begun, f_opened, nI (fc_pw cid stt), nI te, nI cp, f_dropped, f_free, f_state, f_taken, f_fault, f_frameCall, f_at, f_level, f_packEnd, f_shift, f_need, f_entry, f_number, f_acc, a_schema, a_callId, cs, a_deadline, a_callRoot, a_placeOf, wh, we, la, so, dn, a_next, a_first, a_last, a_fieldOf, a_val, a_endAt, a_typeOf, a_cellOf)) :
    ∀ (d t : Nat) (stt : Nat → Nat) (WL : Nat → List Nat) (cs wh we la so dn ys : Nat → Int32) (cp c ny : Nat), t + d = te → Q stt → fc_RC o cid stt dl a_callId cs a_deadline a_placeOf ys b_due b_placeOf b_used → fc_RW cid stt dl WL wh we la so → (∀ q i, q < 6 → cid q = some i → stt q = 1 → t < dl q) → cp + fc_pw cid stt = o → fc_pw cid stt < ny → (∀ postY, fc_YT postY ny c g_begun (nI o) (lN te) (nI cp) g_lost g_got g_taken g_fault g_at g_there g_source g_varint g_found b_kinds b_extras ys b_due b_placeOf b_used b_bodies b_sizes dn b_frame → G postY) →
      wX_tick_23 post (nI te) (d + 1) (nI c) f_begun f_opened (nI (fc_pw cid stt)) (nI t) (nI cp) f_dropped f_free f_state f_taken f_fault f_frameCall f_at f_level f_packEnd f_shift f_need f_entry f_number f_acc a_schema a_callId cs a_deadline a_callRoot a_placeOf wh we la so dn a_next a_first a_last a_fieldOf a_val a_endAt a_typeOf a_cellOf := by
  have stop : ∀ (t : Nat) (stt : Nat → Nat) (WL : Nat → List Nat) (cs wh we la so dn ys : Nat → Int32) (cp c ny : Nat), Q stt → fc_RC o cid stt dl a_callId cs a_deadline a_placeOf ys b_due b_placeOf b_used → fc_RW cid stt dl WL wh we la so → (∀ q i, q < 6 → cid q = some i → stt q = 1 → te < dl q) → cp + fc_pw cid stt = o → fc_pw cid stt < ny → (∀ postY, fc_YT postY ny c g_begun (nI o) (lN te) (nI cp) g_lost g_got g_taken g_fault g_at g_there g_source g_varint g_found b_kinds b_extras ys b_due b_placeOf b_used b_bodies b_sizes dn b_frame → G postY) → post (nI c) (f_begun, f_opened, nI (fc_pw cid stt), nI te, nI cp, f_dropped, f_free, f_state, f_taken, f_fault, f_frameCall, f_at, f_level, f_packEnd, f_shift, f_need, f_entry, f_number, f_acc, a_schema, a_callId, cs, a_deadline, a_callRoot, a_placeOf, wh, we, la, so, dn, a_next, a_first, a_last, a_fieldOf, a_val, a_endAt, a_typeOf, a_cellOf) := by
    intro t stt WL cs wh we la so dn ys cp c ny hq0 hC hW hP hcp hny HY
    refine K stt WL cs wh we la so dn ys cp c hq0 hC hW hP hcp (fun postY Y => HY postY ?_)
    obtain ⟨ny, rfl⟩ : ∃ m, ny = m + 1 := ⟨ny - 1, by omega⟩
    refine fc_ear (du := fc_du b_due) hC.1 (by omega) (fun j hj h1 => ?_) (fun x hx => ?_)
    · obtain ⟨q, _, _, _, e1, e2, e3⟩ := fc_pl hC hj h1
      rw [e2]; exact ⟨e1, by omega⟩
    · have hx' : x = -1 := by
        rcases hx with ⟨hx, _⟩ | ⟨b, b1, b2, b3, b4, b5⟩
        · exact hx
        · obtain ⟨q, d1, d2, d3, d4, d5, d6⟩ := fc_pl hC b1 b3
          have := hP q b d1 d2 d3
          omega
      rw [hx']
      exact br_t fa_m1l Y
  intro d
  induction d with
  | zero =>
    intro t stt WL cs wh we la so dn ys cp c ny ht hq0 hC hW hP hcp hny HY
    have e : t = te := by omega
    subst e
    exact br_t (nI_le (Nat.le_refl _) (by omega)) (stop t stt WL cs wh we la so dn ys cp c ny hq0 hC hW hP hcp hny HY)
  | succ d ih =>
    intro t stt WL cs wh we la so dn ys cp c ny ht hq0 hC hW hP hcp hny HY
    have hpw6 := fc_pw6 cid stt
    refine br_f (nI_ge (by omega) (by omega)) (pk_le (fc_pw cid stt) 0 (fun h0 => ?_) (fun h0 => ?_))
    · refine stop t stt WL cs wh we la so dn ys cp c ny hq0 hC hW (fun q i hq hc hs => ?_) hcp hny HY
      exact absurd hs (fc_pw0 (by omega) hq hc)
    · have hw : (t + 1) % 32 < 32 := Nat.mod_lt _ (by decide)
      have e1 : (nI t + 1) &&& 31 = nI ((t + 1) % 32) := by rw [nI_1, fa_m32 (by omega)]
      refine nm_r (nI_1 t) (And.intro (by rw [e1]; exact vp_in_nI hw (by decide)) (nm_r (e' := fa_hd (WL ((t + 1) % 32))) ?_ ⟨(WL ((t + 1) % 32)).length + 1, ?_⟩))
      · rw [e1, nI_clamp (by omega)]; exact (hW.1 _ hw).1
      · refine fc_tin (t := t + 1) (nw := te) hQ (by omega) (by omega) ?_ (WL ((t + 1) % 32)) [] stt WL cs wh we la so dn ys cp c ny _ hq0 hC hW rfl (fun _ ha => nomatch ha) (fun q i hq hc hs => hP q i hq hc hs) hcp hny HY (Nat.lt_succ_self _)
        intro stt WL cs wh we la so dn ys cp c ny hq0 hC hW hP hcp hny HY
        exact ih (t + 1) stt WL cs wh we la so dn ys cp c ny (by omega) hq0 hC hW hP hcp hny HY
end
end
section
/-! a dead connection: both sides in lockstep -/
section
variable {f_begun f_opened f_waiting f_time f_completions f_dropped f_free f_state f_taken f_fault f_frameCall f_at f_level f_packEnd f_shift f_need f_entry f_number : Int32} {f_acc : Int64} {a_schema a_callId a_callState a_deadline a_callRoot a_placeOf a_wheel a_wheelEnd a_later a_sooner a_done a_next a_first a_last a_fieldOf : Nat → Int32} {a_val : Nat → Int64} {a_endAt a_typeOf a_cellOf : Nat → Int32} {b_kinds b_extras : Nat → Int32} {b_due : Nat → Int64} {b_placeOf b_used b_bodies b_sizes b_frame : Nat → Int32} {g_begun g_lost g_got g_taken g_fault g_at g_there g_source g_found : Int32} {g_now g_varint : Int64} {o : Nat} {cid : Nat → Option Nat} {dl : Nat → Nat}
/-- the reference passes over calls that aren't pending -/
theorem fc_skip {postY : Int32 → SY → Prop} {ys dn : Nat → Int32} {cp i : Nat} (ho : o ≤ 200) (hi : i ≤ o) (K : wY_receive_87 postY (o - i + 1) (nI i) g_begun (nI o) g_now (nI cp) g_lost g_got g_taken g_fault g_at g_there g_source g_varint g_found b_kinds b_extras ys b_due b_placeOf b_used b_bodies b_sizes dn b_frame) : ∀ d j, j + d = i → (∀ x, j ≤ x → x < i → ¬ ys x = 1) → wY_receive_87 postY (o - j + 1) (nI j) g_begun (nI o) g_now (nI cp) g_lost g_got g_taken g_fault g_at g_there g_source g_varint g_found b_kinds b_extras ys b_due b_placeOf b_used b_bodies b_sizes dn b_frame := by
  intro d
  induction d with
  | zero =>
    intro j hj _
    have e : j = i := by omega
    subst e
    exact K
  | succ d ih =>
    intro j hj hx
    obtain ⟨m, hm⟩ : ∃ m, o - j = m + 1 := ⟨o - j - 1, by omega⟩
    rw [hm]
    refine br_f (nI_ge (by omega) (by omega)) (And.intro (vp_in_nI (by omega) (by decide)) ?_)
    rw [nI_clamp (by omega)]
    refine br_f (hx j (Nat.le_refl _) (by omega)) (nm_r (nI_1 j) ?_)
    have h := ih (j + 1) (by omega) (fun x h1 h2 => hx x (by omega) h2)
    rw [show m + 1 = o - (j + 1) + 1 from by omega]
    exact h
def fc_LI (cid : Nat → Option Nat) (stt : Nat → Nat) (p : Nat) (x : Int32) : Prop :=
  (x = -1 ∧ ∀ q, q < p → ∀ i, cid q = some i → stt q ≠ 1) ∨
  (∃ b i, b < p ∧ x = nI b ∧ cid b = some i ∧ stt b = 1 ∧ ∀ q j, q < p → cid q = some j → stt q = 1 → i ≤ j)
theorem fc_least {post : SX → Prop} {J23 : Int32 → Int32 → Int32 → Int32 → Int32 → Int32 → Int32 → Int32 → Int32 → Int32 → Int32 → Int32 → Int32 → Int32 → Int32 → Int32 → Int32 → Int32 → Int64 → (Nat → Int32) → (Nat → Int32) → (Nat → Int32) → (Nat → Int32) → (Nat → Int32) → (Nat → Int32) → (Nat → Int32) → (Nat → Int32) → (Nat → Int32) → (Nat → Int32) → (Nat → Int32) → (Nat → Int32) → (Nat → Int32) → (Nat → Int32) → (Nat → Int32) → (Nat → Int64) → (Nat → Int32) → (Nat → Int32) → (Nat → Int32) → Prop}
    {stt : Nat → Nat} {ys : Nat → Int32} (hC : fc_RC o cid stt dl a_callId a_callState a_deadline a_placeOf ys b_due b_placeOf b_used)
    (K : ∀ x, fc_LI cid stt 6 x → wX_die_34 post J23 f_begun f_opened f_waiting f_time f_completions f_dropped f_free f_state f_taken f_fault f_frameCall f_at f_level f_packEnd f_shift f_need f_entry f_number f_acc a_schema a_callId a_callState a_deadline a_callRoot a_placeOf a_wheel a_wheelEnd a_later a_sooner a_done a_next a_first a_last a_fieldOf a_val a_endAt a_typeOf a_cellOf 1 x (nI 6)) : ∀ d p x, p + d = 6 → fc_LI cid stt p x → wX_die_34 post J23 f_begun f_opened f_waiting f_time f_completions f_dropped f_free f_state f_taken f_fault f_frameCall f_at f_level f_packEnd f_shift f_need f_entry f_number f_acc a_schema a_callId a_callState a_deadline a_callRoot a_placeOf a_wheel a_wheelEnd a_later a_sooner a_done a_next a_first a_last a_fieldOf a_val a_endAt a_typeOf a_cellOf (d + 1) x (nI p) := by
  intro d
  induction d with
  | zero =>
    intro p x hp hl
    have e : p = 6 := by omega
    subst e
    exact K x hl
  | succ d ih =>
    intro p x hp hl
    have ip : vp_in (nI p) 6 := vp_in_nI (by omega) (by decide)
    have ec : (nI p).toNatClampNeg = p := nI_clamp (by omega)
    have ho := hC.1
    refine br_f (nI_ge (b := 6) (by omega) (by decide)) (And.intro ip ?_)
    rw [ec]
    match hc : cid p with
    | none =>
      have h1 := (hC.2.1 p (by omega) hc).1
      rw [h1]
      refine br_t fa_m1l (nm_r (nI_1 p) (ih (p + 1) x (by omega) ?_))
      rcases hl with ⟨l1, l2⟩ | ⟨b, i, l1, l2, l3, l4, l5⟩
      · refine Or.inl ⟨l1, fun q hq i hi => ?_⟩
        by_cases e : q = p
        · rw [e, hc] at hi; cases hi
        · exact l2 q (by omega) i hi
      · refine Or.inr ⟨b, i, by omega, l2, l3, l4, fun q j hq hj hs => ?_⟩
        by_cases e : q = p
        · rw [e, hc] at hj; cases hj
        · exact l5 q j (by omega) hj hs
    | some k =>
      obtain ⟨a1, a2, a3, a4, a5, a6, a7, a8, a9, a10, a11, a12⟩ := hC.2.2.1 p k (by omega) hc
      rw [a2]
      refine br_f (nI_pos (by omega)) (And.intro ip ?_)
      rw [a6]
      refine pk_eq (stt p) 1 (fun hs => ?_) (fun hs => nm_r (nI_1 p) (ih (p + 1) x (by omega) ?_))
      · rcases hl with ⟨l1, l2⟩ | ⟨b, i, l1, l2, l3, l4, l5⟩
        · rw [l1]
          refine br_t fa_m1l (nm_r (nI_1 p) (ih (p + 1) (nI p) (by omega) (Or.inr ⟨p, k, by omega, rfl, hc, hs, fun q j hq hj hs' => ?_⟩)))
          by_cases e : q = p
          · rw [e, hc] at hj; cases hj; exact Nat.le_refl _
          · exact absurd hs' (l2 q (by omega) j hj)
        · rw [l2]
          obtain ⟨c1, c2, _⟩ := hC.2.2.1 b i (by omega) l3
          refine br_f (nI_pos (by omega)) (And.intro ip (And.intro (vp_in_nI (by omega) (by decide)) ?_))
          rw [nI_clamp (by omega), c2]
          refine pk_le i k (fun h => nm_r (nI_1 p) (ih (p + 1) (nI b) (by omega) (Or.inr ⟨b, i, by omega, rfl, l3, l4, fun q j hq hj hs' => ?_⟩))) (fun h => nm_r (nI_1 p) (ih (p + 1) (nI p) (by omega) (Or.inr ⟨p, k, by omega, rfl, hc, hs, fun q j hq hj hs' => ?_⟩)))
          · by_cases e : q = p
            · rw [e, hc] at hj; cases hj; exact h
            · exact l5 q j (by omega) hj hs'
          · by_cases e : q = p
            · rw [e, hc] at hj; cases hj; exact Nat.le_refl _
            · have := l5 q j (by omega) hj hs'; omega
      · rcases hl with ⟨l1, l2⟩ | ⟨b, i, l1, l2, l3, l4, l5⟩
        · refine Or.inl ⟨l1, fun q hq i hi => ?_⟩
          by_cases e : q = p
          · rw [e]; exact hs
          · exact l2 q (by omega) i hi
        · refine Or.inr ⟨b, i, by omega, l2, l3, l4, fun q j hq hj hs' => ?_⟩
          by_cases e : q = p
          · rw [e] at hs'; exact absurd hs' hs
          · exact l5 q j (by omega) hj hs'
theorem fc_pwp {stt : Nat → Nat} (h : ∀ q, q < 6 → ∀ i, cid q = some i → stt q ≠ 1) : fc_pw cid stt = 0 := by
  have e : ∀ q, q < 6 → fc_pn cid stt q = 0 := by
    intro q hq
    refine if_neg (fun z => ?_)
    match hc : cid q with
    | none => exact z.1 hc
    | some i => exact h q hq i hc z.2
  unfold fc_pw
  simp only [fh_sum]
  have := e 0 (by omega)
  have := e 1 (by omega)
  have := e 2 (by omega)
  have := e 3 (by omega)
  have := e 4 (by omega)
  have := e 5 (by omega)
  omega
theorem fc_dieL {post : SX → Prop} {G : (Int32 → SY → Prop) → Prop} {Q : (Nat → Nat) → Prop} (hQ : ∀ stt p, stt p = 1 → Q stt → Q (fc_u stt p 5))
    (K : ∀ (stt : Nat → Nat) (WL : Nat → List Nat) (cs wh we la so dn ys : Nat → Int32) (cp : Nat), Q stt → fc_RC o cid stt dl a_callId cs a_deadline a_placeOf ys b_due b_placeOf b_used → fc_RW cid stt dl WL wh we la so → (∀ q i, q < 6 → cid q = some i → stt q ≠ 1) → cp + fc_pw cid stt = o → (∀ postY : Int32 → SY → Prop, postY 3 (g_begun, nI o, g_now, nI cp, g_lost, g_got, g_taken, g_fault, g_at, g_there, g_source, g_varint, g_found, b_kinds, b_extras, ys, b_due, b_placeOf, b_used, b_bodies, b_sizes, dn, b_frame) → G postY) →
      post (f_begun, f_opened, nI (fc_pw cid stt), f_time, nI cp, f_dropped, f_free, f_state, f_taken, f_fault, f_frameCall, f_at, f_level, f_packEnd, f_shift, f_need, f_entry, f_number, f_acc, a_schema, a_callId, cs, a_deadline, a_callRoot, a_placeOf, wh, we, la, so, dn, a_next, a_first, a_last, a_fieldOf, a_val, a_endAt, a_typeOf, a_cellOf)) :
    ∀ (w : Nat) (stt : Nat → Nat) (WL : Nat → List Nat) (cs wh we la so dn ys : Nat → Int32) (cp j : Nat), fc_pw cid stt = w → Q stt → fc_RC o cid stt dl a_callId cs a_deadline a_placeOf ys b_due b_placeOf b_used → fc_RW cid stt dl WL wh we la so → (∀ q i, q < 6 → cid q = some i → stt q = 1 → j ≤ i) → cp + fc_pw cid stt = o → j ≤ o → (∀ postY, wY_receive_87 postY (o - j + 1) (nI j) g_begun (nI o) g_now (nI cp) g_lost g_got g_taken g_fault g_at g_there g_source g_varint g_found b_kinds b_extras ys b_due b_placeOf b_used b_bodies b_sizes dn b_frame → G postY) →
      wX_die_23 post (w + 1) f_begun f_opened (nI w) f_time (nI cp) f_dropped f_free f_state f_taken f_fault f_frameCall f_at f_level f_packEnd f_shift f_need f_entry f_number f_acc a_schema a_callId cs a_deadline a_callRoot a_placeOf wh we la so dn a_next a_first a_last a_fieldOf a_val a_endAt a_typeOf a_cellOf := by
  intro w
  induction w with
  | zero =>
    intro stt WL cs wh we la so dn ys cp j hw hq0 hC hW hP hcp hj HY
    have hnp : ∀ q i, q < 6 → cid q = some i → stt q ≠ 1 := fun q i hq hc => fc_pw0 hw hq hc
    refine br_t (by decide) ?_
    have ho := hC.1
    have k := K stt WL cs wh we la so dn ys cp hq0 hC hW hnp hcp (fun postY Y => HY postY (fc_skip hC.1 (Nat.le_refl _) ?_ (o - j) j (by omega) (fun x h1 h2 hx => ?_)))
    · rw [hw] at k; exact k
    · exact br_t (nI_le (Nat.le_refl _) (by omega)) Y
    · obtain ⟨q, d1, d2, d3, _⟩ := fc_pl hC h2 hx
      exact hnp q x d1 d2 d3
  | succ w ih =>
    intro stt WL cs wh we la so dn ys cp j hw hq0 hC hW hP hcp hj HY
    have hw6 := fc_pw6 cid stt
    have ho := hC.1
    refine br_f (nI_nle (by omega) (by omega)) ⟨7, ?_⟩
    refine fc_least (a_callState := cs) hC ?_ 6 0 (-1) (by omega) (Or.inl ⟨rfl, fun q hq => absurd hq (by omega)⟩)
    intro x hl
    rcases hl with ⟨l1, l2⟩ | ⟨p, i, l1, l2, l3, l4, l5⟩
    · have := fc_pwp l2; omega
    · subst l2
      obtain ⟨a1, a2, a3, a4, a5, a6, a7, a8, a9, a10, a11, a12⟩ := hC.2.2.1 p i l1 l3
      have hpw := fc_pwend (k := 5) l1 l3 l4 (by decide)
      have hm := (hW.2.1 (dl p % 32) p (Nat.mod_lt _ (by decide))).mpr ⟨l1, ⟨i, l3⟩, l4, rfl⟩
      obtain ⟨A, D, hAD⟩ := List.append_of_mem hm
      refine br_t (nI_le (a := 6) (b := 6) (Nat.le_refl _) (by decide)) ?_
      refine fc_comp (A := A) (D := D) (k := 5) hW l1 l3 (by omega) (by decide) (by decide) a7 (by omega) a2 hAD (by omega) (fun wh' we' la' so' hR => ?_)
      refine ih (fc_u stt p 5) _ _ wh' we' la' so' (upd dn (cp % 32) (nI i)) (upd ys i (nI 5)) (cp + 1) (i + 1) (by omega) (hQ stt p l4 hq0) (fc_RCend hC l1 l3 (by decide) (by decide)) hR (fun q k hq hk hs => ?_) (by omega) (by omega) (fun postY Y => HY postY ?_)
      · by_cases eq : q = p
        · subst eq; rw [fc_us] at hs; exact absurd hs (by decide)
        · rw [fc_un eq] at hs
          have h1 := l5 q k hq hk hs
          have h2 : k ≠ i := fun z => eq (fc_inj hC hq l1 (z ▸ hk) l3)
          omega
      · have hji := hP p i l1 l3 l4
        refine fc_skip (i := i) hC.1 (by omega) ?_ (i - j) j (by omega) (fun x h1 h2 hx => ?_)
        · rw [show o - i + 1 = (o - (i + 1) + 1) + 1 from by omega]
          refine br_f (nI_ge (by omega) (by omega)) (And.intro (vp_in_nI (by omega) (by decide)) ?_)
          rw [nI_clamp (by omega)]
          exact br_t (by rw [a11, l4]; rfl) (fc_end (k := 5) (by omega) (by decide) (by omega) (nm_r (nI_1 i) Y))
        · obtain ⟨q, d1, d2, d3, _⟩ := fc_pl hC (by omega) hx
          have := l5 q x d1 d2 d3
          omega
end
end
section
/-! questions to a reply: the component -/
def fq_g (fo : Nat → Int32) (va : Nat → Int64) (num : Int32) (l : List Nat) : List Int64 := (l.filter (fun x => decide (fo x = num))).map va
theorem fq_gc (fo : Nat → Int32) (va : Nat → Int64) (num : Int32) (x : Nat) (l : List Nat) : fq_g fo va num (x :: l) = if fo x = num then va x :: fq_g fo va num l else fq_g fo va num l := by
  unfold fq_g
  by_cases h : fo x = num <;> simp [h]
/-- sk: the first that matches, with what lies behind it -/
theorem fq_sk {fo : Nat → Int32} {va : Nat → Int64} {num : Int32} : ∀ l : List Nat, (fh_sk fo num l = [] ∧ fq_g fo va num l = []) ∨ (∃ A x r, l = A ++ x :: r ∧ fh_sk fo num l = x :: r ∧ fq_g fo va num l = va x :: fq_g fo va num r)
  | [] => Or.inl ⟨rfl, rfl⟩
  | a :: l => by
    rw [fq_gc, fh_sk]
    by_cases h : fo a = num
    · rw [if_pos h, if_pos h]
      exact Or.inr ⟨[], a, l, rfl, rfl, rfl⟩
    · rw [if_neg h, if_neg h]
      rcases fq_sk (va := va) l with h1 | ⟨A, x, r, h1, h2, h3⟩
      · exact Or.inl h1
      · exact Or.inr ⟨a :: A, x, r, by rw [h1]; rfl, h2, h3⟩
theorem fq_CT {fo : Nat → Int32} {va : Nat → Int64} {j : Nat} (hj : j < 2 ^ 31) : ∀ {l k}, fh_CT fo va l k → (∀ p, p ∈ k → p.1 ≤ 15) → fq_g fo va (nI j) l = (fb_F j k).map Prod.snd
  | [], k, h, _ => by
    have h' : k = [] := h
    subst h'
    rfl
  | a :: l, k, ⟨p, k', e, a1, a2, a3⟩, hb => by
    subst e
    have hp := hb p List.mem_cons_self
    rw [fq_gc, fb_F_cons, fq_CT hj a3 (fun q hq => hb q (List.mem_cons_of_mem _ hq)), a1, a2]
    by_cases h : p.1 = j
    · rw [if_pos h, if_pos (by rw [h]), List.map_cons]
    · rw [if_neg h, if_neg (fun z => h ((nI_eq (by omega) hj).mp z))]
theorem fq_CT0 {fo : Nat → Int32} {va : Nat → Int64} {num : Int32} (hn : ∀ j, 1 ≤ j → j ≤ 15 → num ≠ nI j) : ∀ {l k}, fh_CT fo va l k → (∀ p, p ∈ k → 1 ≤ p.1 ∧ p.1 ≤ 15) → fq_g fo va num l = []
  | [], _, _, _ => rfl
  | a :: l, k, ⟨p, k', e, a1, a2, a3⟩, hb => by
    subst e
    have hp := hb p List.mem_cons_self
    rw [fq_gc, fq_CT0 hn a3 (fun q hq => hb q (List.mem_cons_of_mem _ hq)), if_neg]
    rw [a1]
    exact fun z => hn p.1 hp.1 hp.2 z.symm
theorem fq_chS {nx : Nat → Int32} {x : Nat} {r : List Nat} : ∀ {A : List Nat}, fh_Ch nx (A ++ x :: r) → nx x = fa_hd r ∧ fh_Ch nx r
  | [], h => h
  | _ :: A, h => fq_chS (A := A) h.2
section
variable {f_begun f_opened f_waiting f_time f_completions f_dropped f_free f_state f_taken f_fault f_frameCall f_at f_level f_packEnd f_shift f_need f_entry f_number : Int32} {f_acc : Int64} {a_schema a_callId a_callState a_deadline a_callRoot a_placeOf a_wheel a_wheelEnd a_later a_sooner a_done a_next a_first a_last a_fieldOf : Nat → Int32} {a_val : Nat → Int64} {a_endAt a_typeOf a_cellOf : Nat → Int32}
theorem fq_cnt {post : Int32 → Prop} {num : Int32} : ∀ (n c : Nat) (l : List Nat), l.length < n → fh_Ch a_next l → (∀ x, x ∈ l → x < 427) → post (nI (c + (fq_g a_fieldOf a_val num l).length)) → wX_count_12 post num f_begun f_opened f_waiting f_time f_completions f_dropped f_free f_state f_taken f_fault f_frameCall f_at f_level f_packEnd f_shift f_need f_entry f_number f_acc a_schema a_callId a_callState a_deadline a_callRoot a_placeOf a_wheel a_wheelEnd a_later a_sooner a_done a_next a_first a_last a_fieldOf a_val a_endAt a_typeOf a_cellOf n (nI c) (fa_hd (fh_sk a_fieldOf num l)) := by
  intro n
  induction n with
  | zero => intro c l h; omega
  | succ n ih =>
    intro c l hl hc hb K
    rcases fq_sk (fo := a_fieldOf) (va := a_val) (num := num) l with ⟨h1, h2⟩ | ⟨A, x, r, h1, h2, h3⟩
    · rw [h1]
      rw [h2] at K
      exact br_t fa_m1l K
    · rw [h2]
      rw [h3, List.length_cons] at K
      have hx : x < 427 := hb x (by rw [h1]; simp)
      rw [h1] at hc
      obtain ⟨c1, c2⟩ := fq_chS hc
      have ec : a_next (fa_hd (x :: r)).toNatClampNeg = fa_hd r := by
        rw [show (fa_hd (x :: r)).toNatClampNeg = x from nI_clamp (by omega)]; exact c1
      refine br_f (nI_pos (by omega)) (nm_r (nI_1 c) (And.intro (vp_in_nI hx (by decide)) ?_))
      rw [ec]
      refine fx_seek c2 (fun y hy => hb y (by rw [h1]; simp [hy])) (ih (c + 1) r ?_ c2 (fun y hy => hb y (by rw [h1]; simp [hy])) ?_)
      · have := congrArg List.length h1
        simp at this
        omega
      · rw [show c + 1 + (fq_g a_fieldOf a_val num r).length = c + ((fq_g a_fieldOf a_val num r).length + 1) from by omega]
        exact K
theorem fq_val {post : Int64 → Prop} {num : Int32} {k : Nat} (hk : k < 2 ^ 31) : ∀ (n c : Nat) (l : List Nat), l.length < n → c ≤ k → fh_Ch a_next l → (∀ x, x ∈ l → x < 427) → post (((fq_g a_fieldOf a_val num l)[k - c]?).getD 0) → wX_value_12 post num (nI k) f_begun f_opened f_waiting f_time f_completions f_dropped f_free f_state f_taken f_fault f_frameCall f_at f_level f_packEnd f_shift f_need f_entry f_number f_acc a_schema a_callId a_callState a_deadline a_callRoot a_placeOf a_wheel a_wheelEnd a_later a_sooner a_done a_next a_first a_last a_fieldOf a_val a_endAt a_typeOf a_cellOf n (fa_hd (fh_sk a_fieldOf num l)) (nI c) := by
  intro n
  induction n with
  | zero => intro c l h; omega
  | succ n ih =>
    intro c l hl hck hc hb K
    rcases fq_sk (fo := a_fieldOf) (va := a_val) (num := num) l with ⟨h1, h2⟩ | ⟨A, x, r, h1, h2, h3⟩
    · rw [h1]
      rw [h2] at K
      exact br_c (fun _ => br_t fa_m1l K) (fun _ => br_t fa_m1l (br_t fa_m1l K))
    · rw [h2]
      rw [h3] at K
      have hx : x < 427 := hb x (by rw [h1]; simp)
      rw [h1] at hc
      obtain ⟨c1, c2⟩ := fq_chS hc
      have ex : (fa_hd (x :: r)).toNatClampNeg = x := nI_clamp (by omega)
      have ix : vp_in (fa_hd (x :: r)) 427 := vp_in_nI hx (by decide)
      refine pk_le k c (fun h => ?_) (fun h => ?_)
      · have e : k = c := by omega
        subst e
        rw [Nat.sub_self] at K
        refine br_f (nI_pos (by omega)) (br_t (nI_pos' hk) (And.intro ix ?_))
        rw [ex]
        exact K
      · refine br_f (nI_pos (by omega)) (And.intro ix ?_)
        rw [ex, c1]
        refine fx_seek c2 (fun y hy => hb y (by rw [h1]; simp [hy])) (nm_r (nI_1 c) (ih (c + 1) r ?_ (by omega) c2 (fun y hy => hb y (by rw [h1]; simp [hy])) ?_))
        · have := congrArg List.length h1
          simp at this
          omega
        · rw [show k - c = (k - (c + 1)) + 1 from by omega, List.getElem?_cons_succ] at K
          exact K
theorem fq_valN {post : Int64 → Prop} {num k : Int32} (hk : k < 0) (x : Int32) (K : post 0) : wX_value_12 post num k f_begun f_opened f_waiting f_time f_completions f_dropped f_free f_state f_taken f_fault f_frameCall f_at f_level f_packEnd f_shift f_need f_entry f_number f_acc a_schema a_callId a_callState a_deadline a_callRoot a_placeOf a_wheel a_wheelEnd a_later a_sooner a_done a_next a_first a_last a_fieldOf a_val a_endAt a_typeOf a_cellOf 1 x 0 := by
  have h1 : k ≤ 0 := Int32.le_of_lt hk
  have h2 : ¬ 0 ≤ k := Int32.not_le.mpr hk
  exact br_t h1 (br_c (fun _ => K) (fun _ => br_f h2 K))
variable {sch : Nat → Nat} {kd : Nat → List Nat} {Fl : List Nat} {PL : Nat → List Nat} {rt : Nat → Nat} {CC : Nat → fb_Con}
/-- one step down a path -/
theorem fq_step {post : Int32 → Prop} {J95 : Int32 → Int32 → Int32 → Prop} {p q m t f x9 : Nat} {x3 x7 x8 : Int32} (h : fh_HR a_next a_first a_last a_fieldOf a_val f_free kd Fl PL rt CC) (hp : p < 7) (h6 : PL p ≠ []) (hs : fb_Sc sch) (hsch : ∀ i, i < 64 → a_schema i = nI (sch i)) (hWC : fb_WC sch [] (CC p)) (hPT : fb_PT sch q t) (hq : q < 16) (ht : t ≤ 3) (hm : fh_At kd a_fieldOf (rt p) q m) (h1 : 1 ≤ f) (h2 : f ≤ 15)
    (K0 : CC p (q * 16 + f) = [] → post (-1))
    (K1 : ∀ x t', fh_At kd a_fieldOf (rt p) (q * 16 + f) x → fb_PT sch (q * 16 + f) t' → t' ≤ 3 → J95 (nI x) (nI t') (nI (x9 + 1))) :
    wX_firstCell_113 post J95 x3 (nI m) (nI t) x7 x8 (nI x9) (nI f) f_begun f_opened f_waiting f_time f_completions f_dropped f_free f_state f_taken f_fault f_frameCall f_at f_level f_packEnd f_shift f_need f_entry f_number f_acc a_schema a_callId a_callState a_deadline a_callRoot a_placeOf a_wheel a_wheelEnd a_later a_sooner a_done a_next a_first a_last a_fieldOf a_val a_endAt a_typeOf a_cellOf := by
  have hpre := fh_HpQ h.1 hp h6
  have hmP := fh_AtP hpre hm
  have hmb := fh_HpL h.1 hp hmP
  have hk := h.1.2.2.2.2 p hp m hmP
  have hct := (h.2.1 p hp h6 q m hm).1
  have hkb : ∀ x, x ∈ kd m → x < 427 := fun x hx => fh_HpL h.1 hp (fh_HpK h.1 hp hmP hx)
  have eI : nI t * 16 + nI f = nI (t * 16 + f) := by rw [show nI t * 16 = nI (t * 16) from pk_mul t 16, nI_add]
  have iI : vp_in (nI t * 16 + nI f) 64 := by rw [eI]; exact vp_in_nI (by omega) (by decide)
  have e1 : a_schema (nI t * 16 + nI f).toNatClampNeg - 1 = nI (sch (t * 16 + f)) - 1 := by rw [eI, nI_clamp (by omega), hsch _ (by omega)]
  obtain ⟨s1, s2⟩ := hs (t * 16 + f)
  refine And.intro iI (nm_r e1 (br_f (nI_ne0 h1 (by omega)) ?_))
  have bad : (sch (t * 16 + f) - 1) / 4 ≠ 6 → wX_firstCell_166 post J95 x3 x7 x8 (nI x9) (nI (sch (t * 16 + f)) - 1) (-1) f_begun f_opened f_waiting f_time f_completions f_dropped f_free f_state f_taken f_fault f_frameCall f_at f_level f_packEnd f_shift f_need f_entry f_number f_acc a_schema a_callId a_callState a_deadline a_callRoot a_placeOf a_wheel a_wheelEnd a_later a_sooner a_done a_next a_first a_last a_fieldOf a_val a_endAt a_typeOf a_cellOf := fun hk6 => br_f (by decide) (K0 (fx_h0 hWC hPT h1 h2 (Or.inl hk6) hq))
  by_cases h0 : sch (t * 16 + f) = 0
  · rw [h0]
    rw [h0] at bad
    exact br_f (by decide) (bad (by decide))
  · rw [fa_e2 (by omega) (by omega)]
    refine pk_eq ((sch (t * 16 + f) - 1) / 4) 6 (fun hk6 => ?_) (fun hk6 => bad hk6)
    have ef : a_first (nI m).toNatClampNeg = fa_hd (kd m) := by rw [nI_clamp (by omega)]; exact hk.1
    refine And.intro (vp_in_nI hmb (by decide)) ?_
    rw [ef]
    refine fx_seek hk.2.2 hkb ?_
    rcases fh_CTs (f := f) (by omega) hct (fun p hp => (hWC.1 _ p hp).2) with ⟨g1, g2⟩ | ⟨A, x, D, k1, p', k2, g1, g2, g3, g4, g5, g6, g7⟩
    · rw [fh_skN g2]
      exact br_f (by decide) (K0 (fx_h0 hWC hPT h1 h2 (Or.inr g1) hq))
    · rw [g1, fh_skS g5 g6]
      have hx : x ∈ kd m := by rw [g1]; simp
      have hxb := hkb x hx
      have hms : fb_Ms sch t f ((sch (t * 16 + f) - 1) % 4) := ⟨h1, h2, by omega, by omega⟩
      refine br_t (nI_pos' (by omega)) (nm_r (fa_e3 (by omega) (by omega)) (nm_r (nI_1 x9) (K1 x _ (fx_AtK hm hq hx g5 h1 h2) ?_ (by omega))))
      rcases hm with ⟨hq0, _⟩ | ⟨a1, a2, _⟩ | ⟨_, f', g', a0, a1, _⟩
      · subst hq0
        have et : t = 0 := fb_PTu hPT (Or.inl ⟨rfl, rfl⟩)
        subst et
        simp only [Nat.zero_mul, Nat.zero_add] at hms ⊢
        exact Or.inr (Or.inl (by unfold fb_Ms at hms ⊢; simp only [Nat.zero_mul, Nat.zero_add] at hms ⊢; exact hms))
      · rcases hPT with ⟨h, _⟩ | hPT | ⟨f', g', t1, e, hm1, _⟩
        · omega
        · exact Or.inr (Or.inr ⟨q, f, t, rfl, hPT, hms⟩)
        · obtain ⟨c1, _⟩ := hm1
          omega
      · omega
/-- the list of the message that a path leads to, from its first cell of the field -/
theorem fq_first {post : Int32 → Prop} {p q : Nat} {num : Int32} (h : fh_HR a_next a_first a_last a_fieldOf a_val f_free kd Fl PL rt CC) (hp : p < 6) (h6 : PL p ≠ []) (hs : fb_Sc sch) (hsch : ∀ i, i < 64 → a_schema i = nI (sch i)) (hWC : fb_WC sch [] (CC p)) (hcr : a_callRoot p = nI (rt p)) (hcs : a_callState p = 2) (hq : q ≤ 255) {id : Int32}
    (hf : ∀ R : Int32 → Prop, R (nI p) → wpX_find R (f_begun, f_opened, f_waiting, f_time, f_completions, f_dropped, f_free, f_state, f_taken, f_fault, f_frameCall, f_at, f_level, f_packEnd, f_shift, f_need, f_entry, f_number, f_acc, a_schema, a_callId, a_callState, a_deadline, a_callRoot, a_placeOf, a_wheel, a_wheelEnd, a_later, a_sooner, a_done, a_next, a_first, a_last, a_fieldOf, a_val, a_endAt, a_typeOf, a_cellOf) id)
    (KB : 16 ≤ q → q % 16 = 0 → post (-1))
    (K : (q < 16 ∨ q % 16 ≠ 0) → ∀ l, fh_Ch a_next l → (∀ x, x ∈ l → x < 427) → fh_CT a_fieldOf a_val l (CC p q) → post (fa_hd (fh_sk a_fieldOf num l))) : wpX_firstCell post (f_begun, f_opened, f_waiting, f_time, f_completions, f_dropped, f_free, f_state, f_taken, f_fault, f_frameCall, f_at, f_level, f_packEnd, f_shift, f_need, f_entry, f_number, f_acc, a_schema, a_callId, a_callState, a_deadline, a_callRoot, a_placeOf, a_wheel, a_wheelEnd, a_later, a_sooner, a_done, a_next, a_first, a_last, a_fieldOf, a_val, a_endAt, a_typeOf, a_cellOf) id (nI q) num := by
  have hpre := fh_HpQ h.1 (by omega) h6
  have hr := fh_Pr hpre
  have fin : ∀ (q' m t' : Nat) (n : Nat) (x7 x8 : Int32), fh_At kd a_fieldOf (rt p) q' m → q' = q → (q < 16 ∨ q % 16 ≠ 0) → wX_firstCell_95 post num x7 x8 f_begun f_opened f_waiting f_time f_completions f_dropped f_free f_state f_taken f_fault f_frameCall f_at f_level f_packEnd f_shift f_need f_entry f_number f_acc a_schema a_callId a_callState a_deadline a_callRoot a_placeOf a_wheel a_wheelEnd a_later a_sooner a_done a_next a_first a_last a_fieldOf a_val a_endAt a_typeOf a_cellOf (n + 1) (nI m) (nI t') (nI 2) := by
    intro q' m t' n x7 x8 hA hqq hv
    subst hqq
    have hmP := fh_AtP hpre hA
    have hmb := fh_HpL h.1 (by omega) hmP
    have hk := h.1.2.2.2.2 p (by omega) m hmP
    have ef : a_first (nI m).toNatClampNeg = fa_hd (kd m) := by rw [nI_clamp (by omega)]; exact hk.1
    have hkb : ∀ x, x ∈ kd m → x < 427 := fun x hx => fh_HpL h.1 (j := p) (by omega) (fh_HpK h.1 (by omega) hmP hx)
    refine br_t (by decide) (And.intro (vp_in_nI hmb (by decide)) ?_)
    rw [ef]
    exact fx_seek hk.2.2 hkb (K hv (kd m) hk.2.2 hkb (h.2.1 p (by omega) h6 q' m hA).1)
  have bad : (q < 16 ∨ q % 16 ≠ 0) → CC p q = [] → post (-1) := fun hv hz => K hv [] trivial (fun _ hx => nomatch hx) (by rw [hz]; rfl)
  have hroot : fh_At kd a_fieldOf (rt p) 0 (rt p) := Or.inl ⟨rfl, rfl⟩
  have hPT0 : fb_PT sch 0 0 := Or.inl ⟨rfl, rfl⟩
  have ip : vp_in (nI p) 6 := vp_in_nI hp (by decide)
  have ec : (nI p).toNatClampNeg = p := nI_clamp (by omega)
  unfold wpX_firstCell
  refine hf _ ?_
  refine br_f (nI_pos (n := p) (by omega)) (And.intro ip ?_)
  rw [ec]
  refine br_t hcs (br_f (nI_pos (by omega)) (br_t (nI_le (b := 255) hq (by decide)) (And.intro ip (nm_r hcr ?_))))
  have z16 : (0 : Int32) * 16 + nI 0 = nI 0 := by decide
  have step0 : ∀ (m t n x9 : Nat) (x7 x8 : Int32), t ≤ 3 → (wX_firstCell_95 post num x7 x8 f_begun f_opened f_waiting f_time f_completions f_dropped f_free f_state f_taken f_fault f_frameCall f_at f_level f_packEnd f_shift f_need f_entry f_number f_acc a_schema a_callId a_callState a_deadline a_callRoot a_placeOf a_wheel a_wheelEnd a_later a_sooner a_done a_next a_first a_last a_fieldOf a_val a_endAt a_typeOf a_cellOf n (nI m) (nI t) (nI (x9 + 1))) → wX_firstCell_113 post (wX_firstCell_95 post num x7 x8 f_begun f_opened f_waiting f_time f_completions f_dropped f_free f_state f_taken f_fault f_frameCall f_at f_level f_packEnd f_shift f_need f_entry f_number f_acc a_schema a_callId a_callState a_deadline a_callRoot a_placeOf a_wheel a_wheelEnd a_later a_sooner a_done a_next a_first a_last a_fieldOf a_val a_endAt a_typeOf a_cellOf n) num (nI m) (nI t) x7 x8 (nI x9) (nI 0) f_begun f_opened f_waiting f_time f_completions f_dropped f_free f_state f_taken f_fault f_frameCall f_at f_level f_packEnd f_shift f_need f_entry f_number f_acc a_schema a_callId a_callState a_deadline a_callRoot a_placeOf a_wheel a_wheelEnd a_later a_sooner a_done a_next a_first a_last a_fieldOf a_val a_endAt a_typeOf a_cellOf := by
    intro m t n x9 x7 x8 ht J
    have eI : nI t * 16 + nI 0 = nI (t * 16) := by rw [show nI t * 16 = nI (t * 16) from pk_mul t 16, nI_add]; rfl
    exact And.intro (by rw [eI]; exact vp_in_nI (by omega) (by decide)) (nm_e (br_t rfl (nm_r (nI_1 x9) J)))
  by_cases h15 : q ≤ 15
  · refine br_t (nI_le (b := 15) h15 (by decide)) (br_t (nI_le (b := 15) h15 (by decide)) (br_t (nI_le (b := 15) h15 (by decide)) ⟨3, ?_⟩))
    refine br_f (by decide) (br_t rfl ?_)
    have second : ∀ m t', t' ≤ 3 → fh_At kd a_fieldOf (rt p) q m → wX_firstCell_95 post num (nI q) 0 f_begun f_opened f_waiting f_time f_completions f_dropped f_free f_state f_taken f_fault f_frameCall f_at f_level f_packEnd f_shift f_need f_entry f_number f_acc a_schema a_callId a_callState a_deadline a_callRoot a_placeOf a_wheel a_wheelEnd a_later a_sooner a_done a_next a_first a_last a_fieldOf a_val a_endAt a_typeOf a_cellOf 2 (nI m) (nI t') (nI 1) := by
      intro m t' ht' hA
      exact br_f (by decide) (br_f (by decide) (step0 m t' 1 1 (nI q) 0 ht' (fin q m t' 0 _ _ hA rfl (Or.inl (by omega)))))
    by_cases hq0 : q = 0
    · subst hq0
      exact step0 (rt p) 0 2 0 (nI 0) 0 (by decide) (second (rt p) 0 (by decide) hroot)
    · refine fq_step (x9 := 0) (t := 0) (q := 0) (f := q) h (by omega) h6 hs hsch hWC hPT0 (by decide) (by decide) hroot (by omega) h15 ?_ ?_
      · intro z
        rw [Nat.zero_mul, Nat.zero_add] at z
        exact bad (Or.inl (by omega)) z
      · intro x t' hA _ ht'
        rw [Nat.zero_mul, Nat.zero_add] at hA
        exact second x t' ht' hA
  · have eS : nI q >>> ((4 : Int32) &&& 31) = nI (q / 16) := fa_s4 (by omega)
    have eA : nI q &&& 15 = nI (q % 16) := fa_m16 (by omega)
    have n15 : ¬ nI q ≤ 15 := nI_ge (a := 15) (by omega) (by omega)
    rw [eS]
    refine br_f n15 (br_f n15 ?_)
    rw [eA]
    refine br_f n15 (pk_eq (q % 16) 0 (fun hz => KB (by omega) hz) (fun hz => ⟨3, ?_⟩))
    have hv : q < 16 ∨ q % 16 ≠ 0 := Or.inr hz
    refine br_f (by decide) (br_t rfl ?_)
    have eq2 : q / 16 * 16 + q % 16 = q := by omega
    refine fq_step (x9 := 0) (t := 0) (q := 0) (f := q / 16) h (by omega) h6 hs hsch hWC hPT0 (by decide) (by decide) hroot (by omega) (by omega) ?_ ?_
    · intro z
      rw [Nat.zero_mul, Nat.zero_add] at z
      refine bad hv ?_
      by_cases hzz : CC p q = []
      · exact hzz
      · exfalso
        obtain ⟨o, _⟩ := hWC.2.2.1 q hzz
        rcases o with o | ⟨o1, _⟩ | ⟨_, _, o3⟩
        · omega
        · omega
        · exact fb_F_ne o3 z
    · intro x t' hA hPT' ht'
      rw [Nat.zero_mul, Nat.zero_add] at hA hPT'
      refine br_f (by decide) (br_f (by decide) ?_)
      refine fq_step (x9 := 1) (t := t') (q := q / 16) (f := q % 16) h (by omega) h6 hs hsch hWC hPT' (by omega) ht' hA (by omega) (by omega) ?_ ?_
      · intro z
        rw [eq2] at z
        exact bad hv z
      · intro x2 t2 hA2 _ _
        exact fin _ x2 t2 0 _ _ hA2 eq2 hv
end
end
section
/-! questions to a reply: the reference's reading -/
theorem fl_zz (x y : Int32) : (if (x &&& 1) = 0 then y.toInt64 else (y ^^^ (-1)).toInt64) = (y ^^^ (-(x &&& 1))).toInt64 := by
  obtain ⟨j, hj, e⟩ := pk_andE x (m := 1) 1 (by decide)
  rw [e]
  have h2 : j = 0 ∨ j = 1 := by
    have : (2 : Nat) ^ 1 = 2 := by decide
    omega
  rcases h2 with rfl | rfl
  · rw [if_pos (show nI 0 = 0 from rfl), show (-(nI 0)) = (0 : Int32) from by decide, Int32.xor_zero]
  · rw [if_neg (by decide), show (-(nI 1)) = (-1 : Int32) from by decide]
section
variable {g_begun g_opened : Int32} {g_now : Int64} {g_endings g_lost g_got g_taken g_fault g_at g_there g_source : Int32} {g_varint : Int64} {g_found : Int32} {b_kinds b_extras b_state : Nat → Int32} {b_due : Nat → Int64} {b_placeOf b_used b_bodies b_sizes b_ended b_frame : Nat → Int32}
theorem fl_bytes {post : Int64 → SY → Prop} {B : Nat → Int32} {L s k : Nat} {x1 : Int32} (h : fy_By g_source b_bodies b_frame B L) (hk : k ≤ 8) (hL : s + k ≤ L)
    (K : (x1 = 3 → post (fb_ba B s k).toInt32.toInt64 (g_begun, g_opened, g_now, g_endings, g_lost, g_got, g_taken, g_fault, nI (s + k), g_there, g_source, g_varint, g_found, b_kinds, b_extras, b_state, b_due, b_placeOf, b_used, b_bodies, b_sizes, b_ended, b_frame)) ∧ (¬ x1 = 3 → post (fb_ba B s k) (g_begun, g_opened, g_now, g_endings, g_lost, g_got, g_taken, g_fault, nI (s + k), g_there, g_source, g_varint, g_found, b_kinds, b_extras, b_state, b_due, b_placeOf, b_used, b_bodies, b_sizes, b_ended, b_frame))) :
    ∀ d j, j + d = k → wY_element_28 post x1 (nI k) g_begun g_opened g_now g_endings g_lost g_got g_taken g_fault g_there g_source g_varint g_found b_kinds b_extras b_state b_due b_placeOf b_used b_bodies b_sizes b_ended b_frame (d + 1) (fb_ba B s j) (nI j) (nI (s + j)) := by
  intro d
  induction d with
  | zero =>
    intro j hj
    have e : j = k := by omega
    subst e
    exact br_t (nI_le (Nat.le_refl _) (by omega)) K
  | succ d ih =>
    intro j hj
    have := h.1
    refine br_f (nI_ge (by omega) (by omega)) (nm_r (nI_1 (s + j)) (fy_byte h (by omega) (nm_r (e' := fb_ba B s (j + 1)) rfl (nm_r (nI_1 j) (ih (j + 1) (by omega))))))
theorem fl_elem {B : Nat → Int32} {L s s' e k : Nat} {b : Int64} (h : fy_By g_source b_bodies b_frame B L) (he : fb_El B e k s s' b) (hL : s' ≤ L) (hk : k < 6) (he2 : e < 1000) :
    ∃ vr, ∀ post : Int64 → SY → Prop, post (fb_cv k b) (g_begun, g_opened, g_now, g_endings, g_lost, g_got, g_taken, g_fault, nI s', nI L, g_source, vr, g_found, b_kinds, b_extras, b_state, b_due, b_placeOf, b_used, b_bodies, b_sizes, b_ended, b_frame) → wpY_element post (g_begun, g_opened, g_now, g_endings, g_lost, g_got, g_taken, g_fault, nI s, nI L, g_source, g_varint, g_found, b_kinds, b_extras, b_state, b_due, b_placeOf, b_used, b_bodies, b_sizes, b_ended, b_frame) (nI k) (nI e) := by
  rcases he with ⟨rfl, rfl, rfl⟩ | ⟨rfl, rfl, rfl⟩ | ⟨h3, h5, hv⟩
  · exact ⟨g_varint, fun post P => br_t rfl (br_t rfl ⟨5, fl_bytes h (by decide) hL ⟨fun _ => P, fun z => absurd rfl z⟩ 4 0 (by decide)⟩)⟩
  · exact ⟨g_varint, fun post P => br_f (by decide) (br_t rfl (br_f (by decide) ⟨9, fl_bytes h (by decide) hL ⟨fun z => absurd z (by decide), fun _ => P⟩ 8 0 (by decide)⟩))⟩
  · refine ⟨b, fun post P => ?_⟩
    unfold fb_cv at P
    refine pk_eq k 3 (fun z => absurd z h3) (fun _ => pk_eq k 5 (fun z => absurd z h5) (fun _ => fy_rv0 h hv hL he2 ?_))
    refine pk_eq k 0 (fun z => ?_) (fun z => pk_eq k 1 (fun z1 => ?_) (fun z1 => pk_eq k 2 (fun z2 => ?_) (fun z2 => ?_)))
    · rw [if_pos (Or.inl z)] at P; exact P
    · rw [if_neg (by omega), if_pos z1, fl_zz] at P; exact P
    · rw [if_neg (by omega), if_neg z1, if_pos z2] at P
      exact br_c (fun y => by rw [if_pos y] at P; exact P) (fun y => by rw [if_neg y] at P; exact P)
    · rw [if_neg (by omega), if_neg z1, if_neg z2] at P; exact P
/-- where an entry's contents begin and end -/
theorem fl_len0 {B : Nat → Int32} {L s1 e s' : Nat} {b : Int64} {post : Int32 → SY → Prop} (h : fy_By g_source b_bodies b_frame B L) (hv : fb_Vr B s1 e s' b) (hL : s' ≤ L) (he : e < 1000) (K : post (nI s') (g_begun, g_opened, g_now, g_endings, g_lost, g_got, g_taken, g_fault, nI s1, nI L, g_source, b, g_found, b_kinds, b_extras, b_state, b_due, b_placeOf, b_used, b_bodies, b_sizes, b_ended, b_frame)) : wpY_length post (g_begun, g_opened, g_now, g_endings, g_lost, g_got, g_taken, g_fault, nI s1, nI L, g_source, g_varint, g_found, b_kinds, b_extras, b_state, b_due, b_placeOf, b_used, b_bodies, b_sizes, b_ended, b_frame) (nI e) (nI 0) := by
  refine br_f (by decide) (br_f (by decide) (br_f (by decide) ?_))
  exact fy_rv0 (g_varint := g_varint) h hv hL he K
theorem fl_lenF {w s1 : Nat} {e : Int32} {post : Int32 → SY → Prop} (hw : w = 1 ∨ w = 5) (K : post (nI (s1 + fb_le w)) (g_begun, g_opened, g_now, g_endings, g_lost, g_got, g_taken, g_fault, nI s1, g_there, g_source, g_varint, g_found, b_kinds, b_extras, b_state, b_due, b_placeOf, b_used, b_bodies, b_sizes, b_ended, b_frame)) : wpY_length post (g_begun, g_opened, g_now, g_endings, g_lost, g_got, g_taken, g_fault, nI s1, g_there, g_source, g_varint, g_found, b_kinds, b_extras, b_state, b_due, b_placeOf, b_used, b_bodies, b_sizes, b_ended, b_frame) e (nI w) := by
  have k10 : wY_length_10 post (nI w) g_begun g_opened g_now g_endings g_lost g_got g_taken g_fault (nI s1) g_there g_source g_varint g_found b_kinds b_extras b_state b_due b_placeOf b_used b_bodies b_sizes b_ended b_frame := fy_least (by omega) (by rw [nI_add]; exact K)
  exact pk_eq w 1 (fun _ => k10) (fun h1 => pk_eq w 5 (fun _ => k10) (fun h5 => absurd hw (by omega)))
theorem fl_len2 {B : Nat → Int32} {L s1 e s2 n : Nat} {post : Int32 → SY → Prop} (h : fy_By g_source b_bodies b_frame B L) (hv : fb_Vr B s1 e s2 (lN n)) (hL : s2 ≤ L) (he : e < 1000) (K : post (nI (s2 + n)) (g_begun, g_opened, g_now, g_endings, g_lost, g_got, g_taken, g_fault, nI s2, nI L, g_source, lN n, g_found, b_kinds, b_extras, b_state, b_due, b_placeOf, b_used, b_bodies, b_sizes, b_ended, b_frame)) : wpY_length post (g_begun, g_opened, g_now, g_endings, g_lost, g_got, g_taken, g_fault, nI s1, nI L, g_source, g_varint, g_found, b_kinds, b_extras, b_state, b_due, b_placeOf, b_used, b_bodies, b_sizes, b_ended, b_frame) (nI e) (nI 2) := by
  refine br_f (by decide) (br_f (by decide) (br_t rfl ?_))
  refine fy_rv0 (g_varint := g_varint) h hv hL he ?_
  show post (nI s2 + (lN n).toInt32) _
  rw [lN_i, nI_add]
  exact K
end
/-- the step of a path that is looked for at a level -/
def fl_st (q D j l : Nat) : Nat := if D ≤ l then j else if l = 0 ∧ D = 2 then q / 16 else q % 16
def fl_v (k : Int32) (F : List (Nat × Int64)) : Int64 := if k < 0 then 0 else ((F[k.toNatClampNeg]?).map Prod.snd).getD 0
def fl_lv : fb_Stk → Int32
  | [] => -1
  | _ :: r => nI r.length
/-- the open messages lie on the path -/
def fl_On (q D : Nat) : fb_Stk → Prop
  | [] => True
  | x :: r => r.length ≤ D ∧ (r.length = 0 → x.2.2 = 0) ∧ (r.length = 1 → x.2.2 = if D = 1 then q else q / 16) ∧ (r.length = 2 → x.2.2 = q) ∧ fl_On q D r
section
variable {g_begun g_opened : Int32} {g_now : Int64} {g_endings g_lost g_got g_taken g_fault g_at g_there g_source : Int32} {g_varint : Int64} {g_found : Int32} {b_kinds b_extras b_state : Nat → Int32} {b_due : Nat → Int64} {b_placeOf b_used b_bodies b_sizes b_ended b_frame : Nat → Int32} {q D j : Nat} {kk : Int32}
theorem fl_head {post : Int32 → SY → Prop} {B : Nat → Int32} {L n l T E cnt st s e ty s1 to : Nat} {v a : Int64} {kd ka : Int32} {vr : Int64} (hB : fy_By g_source b_bodies b_frame B L) (hst : st < 200) (hl : l ≤ 2) (hD : D ≤ 2) (hq : q ≤ 255) (hE : E % 256 = e) (hEb : E < 2 ^ 40) (hT : T % 16 = ty) (hTb : T < 2 ^ 20) (k : fb_Key B s e s1 a) (he : e ≤ L)
    (hk : ∀ R : Int32 → Prop, R kd → wpY_known R (g_begun, g_opened, g_now, g_endings, g_lost, g_got, g_taken, g_fault, nI s1, nI L, g_source, a, g_found, b_kinds, b_extras, b_state, b_due, b_placeOf, b_used, b_bodies, b_sizes, b_ended, b_frame) (nI ty) (nI (fb_f a)) (nI (fb_w a)))
    (hl2 : ∀ R : Int32 → SY → Prop, R (nI to) (g_begun, g_opened, g_now, g_endings, g_lost, g_got, g_taken, g_fault, ka, nI L, g_source, vr, g_found, b_kinds, b_extras, b_state, b_due, b_placeOf, b_used, b_bodies, b_sizes, b_ended, b_frame) → wpY_length R (g_begun, g_opened, g_now, g_endings, g_lost, g_got, g_taken, g_fault, nI s1, nI L, g_source, a, g_found, b_kinds, b_extras, b_state, b_due, b_placeOf, b_used, b_bodies, b_sizes, b_ended, b_frame) (nI e) (nI (fb_w a)))
    (K : wY_look_273 post (wY_look_135 post (nI q) (nI j) kk (nI D) n) (nI q) (nI j) kk (nI D) (nI l) (nI T) (lN E) (nI cnt) v (nI st) (nI ty) (nI (fb_f a)) kd (nI to) (nI (fl_st q D j l)) g_begun g_opened g_now g_endings g_lost g_got g_taken g_fault ka (nI L) g_source vr g_found b_kinds b_extras b_state b_due b_placeOf b_used b_bodies b_sizes b_ended b_frame) :
    wY_look_135 post (nI q) (nI j) kk (nI D) (n + 1) (nI l) (nI T) (lN E) (nI cnt) v (nI st) g_begun g_opened g_now g_endings g_lost g_got g_taken g_fault (nI s) (nI L) g_source g_varint g_found b_kinds b_extras b_state b_due b_placeOf b_used b_bodies b_sizes b_ended b_frame := by
  have hL6 := hB.1
  have e1 : (lN E &&& 255).toInt32 = nI e := by rw [fa_m256 (by omega), hE]
  have e2 : nI T &&& 15 = nI ty := by rw [fa_m16 (by omega), hT]
  have hse := k.1
  have hne : ¬ nI s = nI e := fun z => by
    have := (nI_eq (by omega) (by omega)).mp z
    omega
  have hle := fb_KeyL k
  refine br_f (nI_ge (b := 200) hst (by decide)) (br_f (nI_pos (by omega)) (nm_r e1 (br_f hne (nm_r e2 ?_))))
  refine fy_rv0 hB k.2.1 (by omega) (by omega) (nm_r (fb_fE a) (nm_r (fb_wE a) (hk _ (hl2 _ ?_))))
  have e16 : nI q / 16 = nI (q / 16) := pk_div (d := 16) (by omega) (by decide) (by decide)
  have er16 : nI q - nI q / 16 * 16 = nI (q % 16) := pk_rem (d := 16) (by omega) (by decide) (by decide)
  have K265 : ¬ D ≤ l → ¬ (l = 0 ∧ D = 2) → wY_look_265 post (wY_look_135 post (nI q) (nI j) kk (nI D) n) (nI q) (nI j) kk (nI D) (nI l) (nI T) (lN E) (nI cnt) v (nI st) (nI ty) (nI (fb_f a)) kd (nI to) g_begun g_opened g_now g_endings g_lost g_got g_taken g_fault ka (nI L) g_source vr g_found b_kinds b_extras b_state b_due b_placeOf b_used b_bodies b_sizes b_ended b_frame := by
    intro h1 h2
    unfold fl_st at K
    rw [if_neg h1, if_neg h2] at K
    refine And.intro (by decide) ?_
    rw [er16]
    exact K
  refine pk_le D l (fun h => ?_) (fun h => pk_eq l 0 (fun h0 => pk_eq D 2 (fun h2 => And.intro (by decide) ?_) (fun h2 => K265 (by omega) (by omega))) (fun h0 => K265 (by omega) (by omega)))
  · unfold fl_st at K
    rw [if_pos h] at K
    exact K
  · unfold fl_st at K
    rw [if_neg (by omega), if_pos ⟨h0, h2⟩] at K
    rw [e16]
    exact K
theorem fl_pop {post : Int32 → SY → Prop} {n l T E cnt st s : Nat} {v : Int64} {lv : Int32} (hst : st < 200) (hl : l ≤ 2) (hs : s < 256) (hE : E % 256 = s) (hEb : E < 2 ^ 40) (hTb : T < 2 ^ 20) (hlv : nI l + (-1) = lv)
    (K : wY_look_135 post (nI q) (nI j) kk (nI D) n lv (nI (T / 16)) (lN (E / 256)) (nI cnt) v (nI (st + 1)) g_begun g_opened g_now g_endings g_lost g_got g_taken g_fault (nI s) g_there g_source g_varint g_found b_kinds b_extras b_state b_due b_placeOf b_used b_bodies b_sizes b_ended b_frame) :
    wY_look_135 post (nI q) (nI j) kk (nI D) (n + 1) (nI l) (nI T) (lN E) (nI cnt) v (nI st) g_begun g_opened g_now g_endings g_lost g_got g_taken g_fault (nI s) g_there g_source g_varint g_found b_kinds b_extras b_state b_due b_placeOf b_used b_bodies b_sizes b_ended b_frame := by
  have e1 : (lN E &&& 255).toInt32 = nI s := by rw [fa_m256 (by omega), hE]
  exact br_f (nI_ge (b := 200) hst (by decide)) (br_f (nI_pos (by omega)) (nm_r e1 (br_t rfl (nm_r hlv (nm_r (fa_s8 (by omega)) (nm_r (fa_s4 (by omega)) (nm_r (nI_1 st) K)))))))
theorem fl_end {post : Int32 → SY → Prop} {n cnt st T E : Nat} {v : Int64} (hst : st < 200) (K : wY_look_487 post kk (nI cnt) v g_begun g_opened g_now g_endings g_lost g_got g_taken g_fault g_at g_there g_source g_varint g_found b_kinds b_extras b_state b_due b_placeOf b_used b_bodies b_sizes b_ended b_frame) : wY_look_135 post (nI q) (nI j) kk (nI D) (n + 1) (-1) (nI T) (lN E) (nI cnt) v (nI st) g_begun g_opened g_now g_endings g_lost g_got g_taken g_fault g_at g_there g_source g_varint g_found b_kinds b_extras b_state b_due b_placeOf b_used b_bodies b_sizes b_ended b_frame :=
  br_f (nI_ge (b := 200) hst (by decide)) (br_t fa_m1l K)
/-- not this entry: over it -/
theorem fl_over {post : Int32 → SY → Prop} {n l T E cnt st ty f to : Nat} {v : Int64} {kd ka : Int32} (hf : f < 2 ^ 31) (hs : fl_st q D j l < 2 ^ 31) (hl : l ≤ 2) (hD : D ≤ 2) (h : kd < 0 ∨ f ≠ fl_st q D j l ∨ (l < D ∧ ¬ kd = 6)) (K : wY_look_135 post (nI q) (nI j) kk (nI D) n (nI l) (nI T) (lN E) (nI cnt) v (nI (st + 1)) g_begun g_opened g_now g_endings g_lost g_got g_taken g_fault (nI to) g_there g_source g_varint g_found b_kinds b_extras b_state b_due b_placeOf b_used b_bodies b_sizes b_ended b_frame) :
    wY_look_273 post (wY_look_135 post (nI q) (nI j) kk (nI D) n) (nI q) (nI j) kk (nI D) (nI l) (nI T) (lN E) (nI cnt) v (nI st) (nI ty) (nI f) kd (nI to) (nI (fl_st q D j l)) g_begun g_opened g_now g_endings g_lost g_got g_taken g_fault ka g_there g_source g_varint g_found b_kinds b_extras b_state b_due b_placeOf b_used b_bodies b_sizes b_ended b_frame := by
  have kk' := nm_r (P := fun x => wY_look_135 post (nI q) (nI j) kk (nI D) n (nI l) (nI T) (lN E) (nI cnt) v x g_begun g_opened g_now g_endings g_lost g_got g_taken g_fault (nI to) g_there g_source g_varint g_found b_kinds b_extras b_state b_due b_placeOf b_used b_bodies b_sizes b_ended b_frame) (nI_1 st) K
  refine br_c (fun _ => kk') (fun hk => pk_eq f (fl_st q D j l) (fun he => pk_le D l (fun hDl => ?_) (fun hDl => ?_)) (fun he => kk'))
  · exfalso
    rcases h with h | h | ⟨h, _⟩
    · exact hk h
    · exact h he
    · omega
  · refine br_f ?_ kk'
    rcases h with h | h | ⟨_, h⟩
    · exact absurd h hk
    · exact absurd he h
    · exact h
/-- a message on the path: into it -/
theorem fl_into {post : Int32 → SY → Prop} {n l T E cnt st ty f to t' : Nat} {v : Int64} {ka : Int32} (hl : l < D) (hD : D ≤ 2) (hT : T < 2 ^ 20) (hE : E < 2 ^ 40) (hto : to < 256) (ht : ty ≤ 3) (hf : f ≤ 15) (ht' : t' < 16) (hx : b_extras (ty * 16 + f) = nI t') (he : f = fl_st q D j l)
    (K : wY_look_135 post (nI q) (nI j) kk (nI D) n (nI (l + 1)) (nI (T * 16 + t')) (lN (E * 256 + to)) (nI cnt) v (nI (st + 1)) g_begun g_opened g_now g_endings g_lost g_got g_taken g_fault ka g_there g_source g_varint g_found b_kinds b_extras b_state b_due b_placeOf b_used b_bodies b_sizes b_ended b_frame) :
    wY_look_273 post (wY_look_135 post (nI q) (nI j) kk (nI D) n) (nI q) (nI j) kk (nI D) (nI l) (nI T) (lN E) (nI cnt) v (nI st) (nI ty) (nI f) 6 (nI to) (nI (fl_st q D j l)) g_begun g_opened g_now g_endings g_lost g_got g_taken g_fault ka g_there g_source g_varint g_found b_kinds b_extras b_state b_due b_placeOf b_used b_bodies b_sizes b_ended b_frame := by
  have hin : vp_in ((16 : Int32) * nI ty + nI f) 64 := by rw [fy_ix]; exact vp_in_nI (by omega) (by decide)
  have hcl : ((16 : Int32) * nI ty + nI f).toNatClampNeg = ty * 16 + f := by rw [fy_ix, nI_clamp (by omega)]
  refine br_f (by decide) (br_t (congrArg nI he) (br_f (nI_ge hl (by omega)) (br_t rfl (nm_r (nI_1 l) (And.intro hin (nm_r (e' := nI (T * 16 + t')) ?_ (nm_r (e' := lN (E * 256 + to)) ?_ (nm_r (nI_1 st) K))))))))
  · rw [hcl, hx]; exact fa_or16 ht' hT
  · rw [nI_l (by omega)]; exact fa_or256 hto hE
/-- the message itself is asked for -/
theorem fl_msg {post : Int32 → SY → Prop} {n l T E cnt st ty f to : Nat} {v : Int64} {ka : Int32} (hl : D ≤ l) (hl2 : l ≤ 2) (he : f = fl_st q D j l)
    (K : wY_look_135 post (nI q) (nI j) kk (nI D) n (nI l) (nI T) (lN E) (nI 1) v (nI (st + 1)) g_begun g_opened g_now g_endings g_lost g_got g_taken g_fault (nI to) g_there g_source g_varint g_found b_kinds b_extras b_state b_due b_placeOf b_used b_bodies b_sizes b_ended b_frame) :
    wY_look_273 post (wY_look_135 post (nI q) (nI j) kk (nI D) n) (nI q) (nI j) kk (nI D) (nI l) (nI T) (lN E) (nI cnt) v (nI st) (nI ty) (nI f) 6 (nI to) (nI (fl_st q D j l)) g_begun g_opened g_now g_endings g_lost g_got g_taken g_fault ka g_there g_source g_varint g_found b_kinds b_extras b_state b_due b_placeOf b_used b_bodies b_sizes b_ended b_frame := by
  have k9 : ∀ z0 c, wY_look_409 post (wY_look_135 post (nI q) (nI j) kk (nI D) n) (nI q) (nI j) kk (nI D) (nI l) (nI T) (lN E) c v (nI st) 6 (nI to) z0 g_begun g_opened g_now g_endings g_lost g_got g_taken g_fault ka g_there g_source g_varint g_found b_kinds b_extras b_state b_due b_placeOf b_used b_bodies b_sizes b_ended b_frame := fun z0 c => br_t rfl ⟨1, br_t rfl (nm_r (nI_1 st) K)⟩
  refine br_f (by decide) (br_t (congrArg nI he) (br_t (nI_le hl (by omega)) (br_t rfl (br_t rfl (br_c (fun _ => k9 _ _) (fun _ => k9 _ _))))))
/-- the field's values begin -/
theorem fl_vals {post : Int32 → SY → Prop} {n l T E cnt st ty f to m kd x : Nat} {v : Int64} {sch : Nat → Nat} (hl : D ≤ l) (hl2 : l ≤ 2) (he : f = fl_st q D j l) (hkd : kd ≠ 6) (hkd2 : kd < 100) (ht : ty ≤ 3) (hf : f ≤ 15) (hy : fy_Sy sch b_kinds b_extras) (h0 : sch (ty * 16 + f) ≠ 0) (hx : x < 1000) (hto : to < 1000)
    (K : wY_look_430 post (wY_look_135 post (nI q) (nI j) kk (nI D) n) (nI q) (nI j) kk (nI D) (nI l) (nI T) (lN E) (nI st) (nI kd) (nI to) m (nI (if (sch (ty * 16 + f) - 1) % 4 = 1 then cnt else 0)) v (if to ≤ x then 0 else 1) g_begun g_opened g_now g_endings g_lost g_got g_taken g_fault (nI x) g_there g_source g_varint g_found b_kinds b_extras b_state b_due b_placeOf b_used b_bodies b_sizes b_ended b_frame) :
    wY_look_273 post (wY_look_135 post (nI q) (nI j) kk (nI D) n) (nI q) (nI j) kk (nI D) (nI l) (nI T) (lN E) (nI cnt) v (nI st) (nI ty) (nI f) (nI kd) (nI to) (nI (fl_st q D j l)) g_begun g_opened g_now g_endings g_lost g_got g_taken g_fault (nI x) g_there g_source g_varint g_found b_kinds b_extras b_state b_due b_placeOf b_used b_bodies b_sizes b_ended b_frame := by
  have hin : vp_in ((16 : Int32) * nI ty + nI f) 64 := by rw [fy_ix]; exact vp_in_nI (by omega) (by decide)
  have hcl : ((16 : Int32) * nI ty + nI f).toNatClampNeg = ty * 16 + f := by rw [fy_ix, nI_clamp (by omega)]
  have hxx : b_extras ((16 : Int32) * nI ty + nI f).toNatClampNeg = nI ((sch (ty * 16 + f) - 1) % 4) := by rw [hcl, (hy _ (by omega)).2, if_neg h0]
  have n6 : ¬ nI kd = 6 := fun z => hkd ((nI_eq (b := 6) (by omega) (by decide)).mp z)
  have k9 : wY_look_395 post (wY_look_135 post (nI q) (nI j) kk (nI D) n) (nI q) (nI j) kk (nI D) (nI l) (nI T) (lN E) (nI (if (sch (ty * 16 + f) - 1) % 4 = 1 then cnt else 0)) v (nI st) (nI kd) (nI to) g_begun g_opened g_now g_endings g_lost g_got g_taken g_fault (nI x) g_there g_source g_varint g_found b_kinds b_extras b_state b_due b_placeOf b_used b_bodies b_sizes b_ended b_frame := by
    refine pk_le to x (fun h => br_f n6 ⟨m, ?_⟩) (fun h => br_f n6 ⟨m, ?_⟩)
    · rw [if_pos h] at K; exact K
    · rw [if_neg (show ¬ to ≤ x from by omega)] at K; exact K
  refine br_f (nI_pos (by omega)) (br_t (congrArg nI he) (br_t (nI_le hl (by omega)) (br_f n6 (And.intro hin ?_))))
  rw [hxx]
  refine pk_eq ((sch (ty * 16 + f) - 1) % 4) 1 (fun h1 => br_f (by decide) ?_) (fun h1 => br_t rfl ?_)
  · rw [if_pos h1] at k9; exact k9
  · rw [if_neg h1] at k9; exact k9
/-- one value -/
theorem fl_one {post : Int32 → SY → Prop} {L l T E cnt st to m kd k x x' : Nat} {v b vr : Int64} {J : Int32 → Int32 → Int64 → Int32 → Int64 → Int32 → Int32 → Int32 → Int64 → Int32 → Int32 → Int32 → Int32 → Int32 → Int32 → Int32 → Int32 → Int64 → Int32 → (Nat → Int32) → (Nat → Int32) → (Nat → Int32) → (Nat → Int64) → (Nat → Int32) → (Nat → Int32) → (Nat → Int32) → (Nat → Int32) → (Nat → Int32) → (Nat → Int32) → Prop}
    (hk : kd % 10 = k) (hkd : kd < 16) (hxt : x < to) (hto : to < 1000) (hx' : x' < 1000)
    (hE : ∀ R : Int64 → SY → Prop, R (fb_cv k b) (g_begun, g_opened, g_now, g_endings, g_lost, g_got, g_taken, g_fault, nI x', nI L, g_source, vr, g_found, b_kinds, b_extras, b_state, b_due, b_placeOf, b_used, b_bodies, b_sizes, b_ended, b_frame) → wpY_element R (g_begun, g_opened, g_now, g_endings, g_lost, g_got, g_taken, g_fault, nI x, nI L, g_source, g_varint, g_found, b_kinds, b_extras, b_state, b_due, b_placeOf, b_used, b_bodies, b_sizes, b_ended, b_frame) (nI k) (nI to))
    (K : wY_look_430 post J (nI q) (nI j) kk (nI D) (nI l) (nI T) (lN E) (nI st) (nI kd) (nI to) m (nI (cnt + 1)) (if nI cnt = kk then fb_cv k b else v) (if to ≤ x' then 0 else 1) g_begun g_opened g_now g_endings g_lost g_got g_taken g_fault (nI x') (nI L) g_source vr g_found b_kinds b_extras b_state b_due b_placeOf b_used b_bodies b_sizes b_ended b_frame) :
    wY_look_430 post J (nI q) (nI j) kk (nI D) (nI l) (nI T) (lN E) (nI st) (nI kd) (nI to) (m + 1) (nI cnt) v (if to ≤ x then 0 else 1) g_begun g_opened g_now g_endings g_lost g_got g_taken g_fault (nI x) (nI L) g_source g_varint g_found b_kinds b_extras b_state b_due b_placeOf b_used b_bodies b_sizes b_ended b_frame := by
  have er : nI kd - nI kd / 10 * 10 = nI k := by rw [← hk]; exact pk_rem (d := 10) (by omega) (by decide) (by decide)
  rw [if_neg (by omega)]
  refine br_f (by decide) (And.intro (by decide) ?_)
  rw [er]
  refine hE _ (nm_r (nI_1 cnt) ?_)
  refine br_c (fun h => ?_) (fun h => ?_)
  · rw [if_pos h] at K
    refine pk_le to x' (fun h1 => ?_) (fun h1 => ?_)
    · rw [if_pos h1] at K; exact K
    · rw [if_neg (by omega)] at K; exact K
  · rw [if_neg h] at K
    refine pk_le to x' (fun h1 => ?_) (fun h1 => ?_)
    · rw [if_pos h1] at K; exact K
    · rw [if_neg (by omega)] at K; exact K
theorem fl_last {post : Int32 → SY → Prop} {n l T E cnt st to m kd x : Nat} {v : Int64} (h : to ≤ x) (K : wY_look_135 post (nI q) (nI j) kk (nI D) n (nI l) (nI T) (lN E) (nI cnt) v (nI (st + 1)) g_begun g_opened g_now g_endings g_lost g_got g_taken g_fault (nI x) g_there g_source g_varint g_found b_kinds b_extras b_state b_due b_placeOf b_used b_bodies b_sizes b_ended b_frame) :
    wY_look_430 post (wY_look_135 post (nI q) (nI j) kk (nI D) n) (nI q) (nI j) kk (nI D) (nI l) (nI T) (lN E) (nI st) (nI kd) (nI to) (m + 1) (nI cnt) v (if to ≤ x then 0 else 1) g_begun g_opened g_now g_endings g_lost g_got g_taken g_fault (nI x) g_there g_source g_varint g_found b_kinds b_extras b_state b_due b_placeOf b_used b_bodies b_sizes b_ended b_frame := by
  rw [if_pos h]
  exact br_t rfl (nm_r (nI_1 st) K)
end
end
section
/-! the reference's look, along a reading -/
theorem fl_F {C C' : fb_Con} {pa f q j : Nat} (g : fb_Gr C C' pa f) (h : pa ≠ q ∨ f ≠ j) : fb_F j (C' q) = fb_F j (C q) := by
  by_cases e : q = pa
  · subst e
    rcases h with h | h
    · exact absurd rfl h
    · exact g.2.1 j (Ne.symm h)
  · rw [g.1 q e]
theorem fl_mkl {f j : Nat} (l : List (Nat × Int64)) : (fb_F j (fb_mk l f)).length ≤ (fb_F j l).length + 1 := by
  by_cases e : f = j
  · subst e
    rw [fb_F_mk_eq]
    split
    · rename_i h; rw [h]; exact Nat.le_refl _
    · omega
  · rw [fb_F_mk_ne e]; omega
theorem fl_ptl {f : Nat} {v : Int64} : ∀ l : List (Nat × Int64), (fb_pt l f v).length = l.length
  | [] => rfl
  | p :: l => by
    rw [fb_pt]
    split
    · rfl
    · rw [List.length_cons, List.length_cons, fl_ptl l]
theorem fl_adl {C : fb_Con} {q z f rep j : Nat} {v : Int64} : (fb_F j (fb_ad C z f rep v q)).length ≤ (fb_F j (C q)).length + 1 := by
  unfold fb_ad fb_up
  split
  · rename_i h
    subst h
    split
    · rw [fb_F_app, List.length_append, fb_F_one]
      split
      · exact Nat.le_refl _
      · exact Nat.le_succ _
    · by_cases e : f = j
      · subst e
        rw [fb_F_pt_eq, fl_ptl]
        exact fl_mkl _
      · rw [fb_F_pt_ne e, fb_F_mk_ne e]; omega
  · omega
theorem fl_cnt {sch : Nat → Nat} {B : Nat → Int32} {sz s : Nat} {stk : fb_Stk} {pk : Option (Nat × Nat × Nat)} {C : fb_Con} (t : fb_Tr sch B sz s stk pk C) : ∀ q j, (fb_F j (C q)).length ≤ s := by
  refine fb_ind t (fun s stk pk C => ∀ q j, (fb_F j (C q)).length ≤ s) ?_ ?_ ?_ ?_ ?_ ?_ ?_ ?_
  · exact fun _ _ => Nat.le_refl _
  · exact fun s ty pa r C _ h => h
  · exact fun s stk en f C _ h => h
  · intro s e ty pa r C s1 a s' _ h k1 k2 k3 q j
    have := fb_KeyL k1
    have := fb_SkL k3 k1.2.2.2.2
    have := h q j
    omega
  · intro s e ty pa r C s1 a s' b _ h k1 k2 k3 q j
    have := fb_KeyL k1
    have := fb_SvL k3 k1.2.2.2.2
    have := h q j
    have := fl_adl (C := C) (q := q) (z := pa) (f := fb_f a) (rep := (fb_ky sch ty a - 1) % 2) (j := j) (v := fb_cv ((fb_ky sch ty a - 1) / 4) b)
    omega
  · intro s e ty pa r C s1 a s2 n _ h k1 k2 k3 k4 k5 k6 k7 q j
    have := fb_KeyL k1
    have := fb_VrL k5
    have hq := h q j
    unfold fb_ms fb_up
    split
    · rename_i e
      subst e
      have := fl_mkl (f := fb_f a) (j := j) (C q)
      omega
    · omega
  · intro s e ty pa r C s1 a s2 n _ h k1 k2 k3 k4 k5 k6 k7 k8 q j
    have := fb_KeyL k1
    have := fb_VrL k5
    have hq := h q j
    omega
  · intro s e ty pa r C pe en f s' b _ h k1 k2 q j
    have := fb_ElL k2
    have := h q j
    have := fl_adl (C := C) (q := q) (z := pa) (f := f) (rep := (en - 1) % 2) (j := j) (v := fb_cv ((en - 1) / 4) b)
    omega
theorem fl_v0 (k : Int32) : fl_v k [] = 0 := by
  unfold fl_v
  split
  · rfl
  · rfl
theorem fl_va {k : Int32} {F : List (Nat × Int64)} {j : Nat} {b : Int64} (hF : F.length < 2 ^ 31) : fl_v k (F ++ [(j, b)]) = if nI F.length = k then b else fl_v k F := by
  unfold fl_v
  by_cases hk : k < 0
  · rw [if_pos hk, if_pos hk, if_neg]
    intro z
    rw [← z] at hk
    exact nI_pos hF hk
  · obtain ⟨m, hm, rfl⟩ := nI_of hk
    rw [if_neg hk, if_neg hk, nI_clamp hm]
    by_cases e : F.length = m
    · subst e
      rw [if_pos rfl, List.getElem?_append_right (Nat.le_refl _), Nat.sub_self]
      rfl
    · rw [if_neg (fun z => e ((nI_eq hF hm).mp z))]
      by_cases h : m < F.length
      · rw [List.getElem?_append_left h]
      · rw [List.getElem?_eq_none (by rw [List.length_append]; simp; omega), List.getElem?_eq_none (by omega)]
theorem fl_vs {k : Int32} {F : List (Nat × Int64)} {j : Nat} {b : Int64} (hF : F.length ≤ 1) : fl_v k [(j, b)] = if nI 0 = k then b else fl_v k F := by
  have h := fl_va (k := k) (F := []) (j := j) (b := b) (by decide)
  rw [List.nil_append, List.length_nil] at h
  rw [h]
  by_cases e : nI 0 = k
  · rw [if_pos e, if_pos e]
  · rw [if_neg e, if_neg e, fl_v0]
    unfold fl_v
    split
    · rfl
    · rename_i hk
      obtain ⟨m, hm, rfl⟩ := nI_of hk
      have hm0 : m ≠ 0 := fun z => e (by rw [z])
      rw [nI_clamp hm, List.getElem?_eq_none (by omega)]
      rfl
theorem fl_vm {k : Int32} {F : List (Nat × Int64)} {j : Nat} : fl_v k (if F = [] then [(j, 0)] else F) = fl_v k F := by
  split
  · rename_i h
    rw [h, fl_v0]
    unfold fl_v
    split
    · rfl
    · rename_i hk
      obtain ⟨m, hm, rfl⟩ := nI_of hk
      rw [nI_clamp hm]
      match m with
      | 0 => rfl
      | m + 1 => rfl
  · rfl
def fl_Dq (q : Nat) : Nat := if q = 0 then 0 else if q < 16 then 1 else 2
theorem fl_OnP {q e ty pa : Nat} {r : fb_Stk} (h : fl_On q (fl_Dq q) ((e, ty, pa) :: r)) (hq : q ≤ 255) : (r.length < fl_Dq q ∧ pa ≠ q) ∨ (r.length = fl_Dq q ∧ pa = q) := by
  obtain ⟨h0, h1, h2, h3, _⟩ := h
  unfold fl_Dq at h0 h2 ⊢
  simp only at h1 h2 h3
  by_cases a : q = 0
  · rw [if_pos a] at h0 ⊢
    have := h1 (by omega)
    right; omega
  · rw [if_neg a] at h0 h2 ⊢
    by_cases b : q < 16
    · rw [if_pos b] at h0 h2 ⊢
      rw [if_pos rfl] at h2
      by_cases c : r.length = 0
      · have := h1 c; left; omega
      · have := h2 (by omega); right; omega
    · rw [if_neg b] at h0 h2 ⊢
      rw [if_neg (by decide)] at h2
      by_cases c : r.length = 0
      · have := h1 c; left; omega
      · by_cases d : r.length = 1
        · have := h2 d; left; omega
        · have := h3 (by omega); right; omega
def fl_Po (q j s : Nat) (ex stkl : fb_Stk) (pk : Option (Nat × Nat × Nat)) (atl : Nat) : Prop :=
  (ex = [] ∧ pk = none ∧ atl = s) ∨
  (ex = [] ∧ ∃ pe en f e ty pa r, pk = some (pe, en, f) ∧ stkl = (e, ty, pa) :: r ∧ atl = pe ∧ (pa ≠ q ∨ f ≠ j)) ∨
  (∃ ex' e ty pa, ex = ex' ++ [(e, ty, pa)] ∧ stkl ≠ [] ∧ atl = e ∧ q ≠ pa ∧ q / 16 ≠ pa)
theorem fl_tp {sch : Nat → Nat} {sz s q e ty pa e0 ty0 pa0 : Nat} {r ex' stkl : fb_Stk} (h : fb_WS sch sz s ((e0, ty0, pa0) :: r)) (he : (e0, ty0, pa0) :: r = (ex' ++ [(e, ty, pa)]) ++ stkl) (hl : stkl ≠ []) (h1 : q ≠ pa) (h2 : q / 16 ≠ pa) : pa0 ≠ q := by
  match ex', he with
  | [], he =>
    rw [List.nil_append] at he
    cases he
    exact Ne.symm h1
  | [x], he =>
    simp only [List.cons_append, List.nil_append, List.cons.injEq] at he
    obtain ⟨hx, hr⟩ := he
    rcases h with ⟨h, _⟩ | ⟨h, _⟩ | ⟨a1, a2, a3, h, _⟩ | ⟨a1, a2, g, a3, a4, f, h, b1, b2, b3, b4, b5⟩
    · cases h
    · simp only [List.cons.injEq] at h
      rw [h.2] at hr; cases hr
    · simp only [List.cons.injEq] at h
      rw [h.2] at hr
      simp only [List.cons.injEq] at hr
      exact absurd hr.2.symm hl
    · simp only [List.cons.injEq, Prod.mk.injEq] at h
      rw [h.2] at hr
      simp only [List.cons.injEq, Prod.mk.injEq] at hr
      obtain ⟨c1, c2, _⟩ := b5
      have e1 := h.1.2.2
      have e2 := hr.1.2.2
      omega
  | x :: y :: ex'', he =>
    exfalso
    have hlen := congrArg List.length he
    have hw := (fb_WStop h).2.2.2.2
    have hs : 0 < stkl.length := List.length_pos_iff.mpr hl
    simp at hlen
    omega
section
variable {g_begun g_opened : Int32} {g_now : Int64} {g_endings g_lost g_got g_taken g_fault g_source g_found : Int32} {b_kinds b_extras b_state : Nat → Int32} {b_due : Nat → Int64} {b_placeOf b_used b_bodies b_sizes b_ended b_frame : Nat → Int32} {sch : Nat → Nat} {B : Nat → Int32} {sz q j : Nat} {kk : Int32}
def fl_W (post : Int32 → SY → Prop) (g_begun : Int32) (g_opened : Int32) (g_now : Int64) (g_endings : Int32) (g_lost : Int32) (g_got : Int32) (g_taken : Int32) (g_fault : Int32) (g_at : Int32) (g_there : Int32) (g_source : Int32) (g_varint : Int64) (g_found : Int32) (b_kinds : Nat → Int32) (b_extras : Nat → Int32) (b_state : Nat → Int32) (b_due : Nat → Int64) (b_placeOf : Nat → Int32) (b_used : Nat → Int32) (b_bodies : Nat → Int32) (b_sizes : Nat → Int32) (b_ended : Nat → Int32) (b_frame : Nat → Int32) (q j : Nat) (kk : Int32) (n : Nat) (stkl : fb_Stk) (F : List (Nat × Int64)) (st : Nat) : Prop :=
  wY_look_135 post (nI q) (nI j) kk (nI (fl_Dq q)) n (fl_lv stkl) (nI (fy_eT stkl)) (lN (fy_eE stkl)) (nI F.length) (fl_v kk F) (nI st) g_begun g_opened g_now g_endings g_lost g_got g_taken g_fault g_at g_there g_source g_varint g_found b_kinds b_extras b_state b_due b_placeOf b_used b_bodies b_sizes b_ended b_frame
theorem fl_lr {s : Nat} {stk : fb_Stk} {pk : Option (Nat × Nat × Nat)} {C : fb_Con} (hy : fy_Sy sch b_kinds b_extras) (hs : fb_Sc sch) (hz : sz ≤ 60) (hq : q ≤ 255) (hqv : q < 16 ∨ q % 16 ≠ 0) (hj1 : 1 ≤ j) (hj : j ≤ 15) (hB : fy_By g_source b_bodies b_frame B sz) (v0 : Int64) (t : fb_Tr sch B sz s stk pk C) :
    (∃ ex stkl atl st vr, stk = ex ++ stkl ∧ fl_On q (fl_Dq q) stkl ∧ fl_Po q j s ex stkl pk atl ∧ st + stkl.length ≤ atl + 1 ∧ atl ≤ sz ∧ (∀ (post : Int32 → SY → Prop) (n : Nat), fl_W post g_begun g_opened g_now g_endings g_lost g_got g_taken g_fault (nI atl) (nI sz) g_source vr g_found b_kinds b_extras b_state b_due b_placeOf b_used b_bodies b_sizes b_ended b_frame q j kk n stkl (fb_F j (C q)) st → wY_look_135 post (nI q) (nI j) kk (nI (fl_Dq q)) (n + st) 0 0 (lN sz) 0 0 0 g_begun g_opened g_now g_endings g_lost g_got g_taken g_fault 0 (nI sz) g_source v0 g_found b_kinds b_extras b_state b_due b_placeOf b_used b_bodies b_sizes b_ended b_frame)) ∨
    (∃ e ty pa r pe en f st m vr, stk = (e, ty, pa) :: r ∧ pk = some (pe, en, f) ∧ fl_On q (fl_Dq q) stk ∧ pa = q ∧ r.length = fl_Dq q ∧ f = j ∧ st + stk.length ≤ s ∧ pe - s < m ∧ (∀ (post : Int32 → SY → Prop) (n : Nat),
      wY_look_430 post (wY_look_135 post (nI q) (nI j) kk (nI (fl_Dq q)) n) (nI q) (nI j) kk (nI (fl_Dq q)) (nI r.length) (nI (fy_eT stk)) (lN (fy_eE stk)) (nI st) (nI ((en - 1) / 4 + 10)) (nI pe) m (nI (fb_F j (C q)).length) (fl_v kk (fb_F j (C q))) (if pe ≤ s then 0 else 1) g_begun g_opened g_now g_endings g_lost g_got g_taken g_fault (nI s) (nI sz) g_source vr g_found b_kinds b_extras b_state b_due b_placeOf b_used b_bodies b_sizes b_ended b_frame →
      wY_look_135 post (nI q) (nI j) kk (nI (fl_Dq q)) (n + (st + 1)) 0 0 (lN sz) 0 0 0 g_begun g_opened g_now g_endings g_lost g_got g_taken g_fault 0 (nI sz) g_source v0 g_found b_kinds b_extras b_state b_due b_placeOf b_used b_bodies b_sizes b_ended b_frame)) := by
  have hD2 : fl_Dq q ≤ 2 := by unfold fl_Dq; split <;> (try split) <;> decide
  have hst : ∀ l, fl_st q (fl_Dq q) j l < 2 ^ 31 := fun l => by unfold fl_st; split <;> (try split) <;> omega
  refine fb_ind t (fun s stk pk C =>
    (∃ ex stkl atl st vr, stk = ex ++ stkl ∧ fl_On q (fl_Dq q) stkl ∧ fl_Po q j s ex stkl pk atl ∧ st + stkl.length ≤ atl + 1 ∧ atl ≤ sz ∧ (∀ (post : Int32 → SY → Prop) (n : Nat), fl_W post g_begun g_opened g_now g_endings g_lost g_got g_taken g_fault (nI atl) (nI sz) g_source vr g_found b_kinds b_extras b_state b_due b_placeOf b_used b_bodies b_sizes b_ended b_frame q j kk n stkl (fb_F j (C q)) st → wY_look_135 post (nI q) (nI j) kk (nI (fl_Dq q)) (n + st) 0 0 (lN sz) 0 0 0 g_begun g_opened g_now g_endings g_lost g_got g_taken g_fault 0 (nI sz) g_source v0 g_found b_kinds b_extras b_state b_due b_placeOf b_used b_bodies b_sizes b_ended b_frame)) ∨
    (∃ e ty pa r pe en f st m vr, stk = (e, ty, pa) :: r ∧ pk = some (pe, en, f) ∧ fl_On q (fl_Dq q) stk ∧ pa = q ∧ r.length = fl_Dq q ∧ f = j ∧ st + stk.length ≤ s ∧ pe - s < m ∧ (∀ (post : Int32 → SY → Prop) (n : Nat),
      wY_look_430 post (wY_look_135 post (nI q) (nI j) kk (nI (fl_Dq q)) n) (nI q) (nI j) kk (nI (fl_Dq q)) (nI r.length) (nI (fy_eT stk)) (lN (fy_eE stk)) (nI st) (nI ((en - 1) / 4 + 10)) (nI pe) m (nI (fb_F j (C q)).length) (fl_v kk (fb_F j (C q))) (if pe ≤ s then 0 else 1) g_begun g_opened g_now g_endings g_lost g_got g_taken g_fault (nI s) (nI sz) g_source vr g_found b_kinds b_extras b_state b_due b_placeOf b_used b_bodies b_sizes b_ended b_frame →
      wY_look_135 post (nI q) (nI j) kk (nI (fl_Dq q)) (n + (st + 1)) 0 0 (lN sz) 0 0 0 g_begun g_opened g_now g_endings g_lost g_got g_taken g_fault 0 (nI sz) g_source v0 g_found b_kinds b_extras b_state b_due b_placeOf b_used b_bodies b_sizes b_ended b_frame))) ?_ ?_ ?_ ?_ ?_ ?_ ?_ ?_
  · refine Or.inl ⟨[], [(sz, 0, 0)], 0, 0, v0, rfl, ⟨Nat.zero_le _, fun _ => rfl, fun z => absurd z (by decide), fun z => absurd z (by decide), trivial⟩, Or.inl ⟨rfl, rfl, rfl⟩, by simp, Nat.zero_le _, fun post n K => ?_⟩
    unfold fl_W at K
    rw [fb_F_nil, fl_v0, show fy_eE [(sz, 0, 0)] = sz from by simp [fy_eE]] at K
    exact K
  · intro s ty pa r C t0 ih
    obtain ⟨w1, w2, w3⟩ := fy_enc2 (fb_W hs t0).1 hz
    obtain ⟨u1, u2, u3, u4, u5⟩ := fb_WStop (fb_W hs t0).1
    rcases ih with ⟨ex, stkl, atl, st, vr, e1, hOn, hPo, hb, ha, H⟩ | ⟨_, _, _, _, _, _, _, _, _, _, _, h, _⟩
    · left
      rcases hPo with ⟨rfl, _, rfl⟩ | ⟨_, _, _, _, _, _, _, _, h, _⟩ | ⟨ex', e, ty', pa', rfl, hne, rfl, h1, h2⟩
      · rw [List.nil_append] at e1
        subst e1
        have hlen : ((atl, ty, pa) :: r).length = r.length + 1 := rfl
        have ee : fy_eE ((atl, ty, pa) :: r) = fy_eE r * 256 + atl := rfl
        have et : fy_eT ((atl, ty, pa) :: r) = fy_eT r * 16 + ty := rfl
        refine ⟨[], r, atl, st + 1, vr, rfl, hOn.2.2.2.2, Or.inl ⟨rfl, rfl, rfl⟩, by omega, ha, fun post n K => ?_⟩
        rw [show n + (st + 1) = (n + 1) + st from by omega]
        refine H post (n + 1) ?_
        unfold fl_W
        refine fl_pop (l := r.length) (lv := fl_lv r) (by omega) u5 (by omega) (by omega) (by omega) (by omega) ?_ ?_
        · match r with
          | [] => decide
          | x :: r' => exact pk_m1 r'.length
        · rw [show fy_eT ((atl, ty, pa) :: r) / 16 = fy_eT r from by omega, show fy_eE ((atl, ty, pa) :: r) / 256 = fy_eE r from by omega]
          exact K
      · cases h
      · match ex', e1 with
        | [], e1 =>
          simp only [List.nil_append, List.cons_append, List.cons.injEq, Prod.mk.injEq] at e1
          obtain ⟨⟨rfl, rfl, rfl⟩, rfl⟩ := e1
          exact ⟨[], r, s, st, vr, rfl, hOn, Or.inl ⟨rfl, rfl, rfl⟩, hb, ha, H⟩
        | x :: ex'', e1 =>
          simp only [List.cons_append, List.cons.injEq] at e1
          obtain ⟨rfl, rfl⟩ := e1
          exact ⟨ex'' ++ [(atl, ty', pa')], stkl, atl, st, vr, rfl, hOn, Or.inr (Or.inr ⟨ex'', atl, ty', pa', rfl, hne, rfl, h1, h2⟩), hb, ha, H⟩
    · cases h
  · intro s stk en f C t0 ih
    rcases ih with ⟨ex, stkl, atl, st, vr, e1, hOn, hPo, hb, ha, H⟩ | ⟨e, ty, pa, r, pe, en', f', st, m, vr, e1, h, hOn, h1, h2, h3, h4, h5, H⟩
    · left
      rcases hPo with ⟨_, h, _⟩ | ⟨rfl, pe, en', f', e, ty, pa, r, h, e2, rfl, h1⟩ | ⟨ex', e, ty', pa', rfl, hne, rfl, h1, h2⟩
      · cases h
      · cases h
        exact ⟨[], stkl, s, st, vr, e1, hOn, Or.inl ⟨rfl, rfl, rfl⟩, hb, ha, H⟩
      · exact ⟨_, stkl, _, st, vr, e1, hOn, Or.inr (Or.inr ⟨ex', _, ty', pa', rfl, hne, rfl, h1, h2⟩), hb, ha, H⟩
    · cases h
      left
      obtain ⟨m, rfl⟩ : ∃ k, m = k + 1 := ⟨m - 1, by omega⟩
      have hsz : s ≤ sz := by
        rw [e1] at t0
        have := fb_WStop (fb_W hs t0).1
        omega
      refine ⟨[], stk, s, st + 1, vr, rfl, hOn, Or.inl ⟨rfl, rfl, rfl⟩, by omega, hsz, fun post n K => H post n (fl_last (Nat.le_refl _) ?_)⟩
      rw [e1] at K ⊢
      exact K
  · intro s e ty pa r C s1 a s' t0 ih k1 k2 k3
    obtain ⟨w1, w2, w3⟩ := fy_enc2 (fb_W hs t0).1 hz
    obtain ⟨u1, u2, u3, u4, u5⟩ := fb_WStop (fb_W hs t0).1
    have l1 := fb_KeyL k1
    have l2 := fb_SkL k3 k1.2.2.2.2
    have hfl := fb_flt a
    rcases ih with ⟨ex, stkl, atl, st, vr, e1, hOn, hPo, hb, ha, H⟩ | ⟨_, _, _, _, _, _, _, _, _, _, _, h, _⟩
    · left
      rcases hPo with ⟨rfl, _, rfl⟩ | ⟨_, _, _, _, _, _, _, _, h, _⟩ | ⟨ex', e', ty', pa', rfl, hne, rfl, h1, h2⟩
      · rw [List.nil_append] at e1
        subst e1
        have hlen : ((e, ty, pa) :: r).length = r.length + 1 := rfl
        have ee : fy_eE ((e, ty, pa) :: r) = fy_eE r * 256 + e := rfl
        have et : fy_eT ((e, ty, pa) :: r) = fy_eT r * 16 + ty := rfl
        have kn : ∀ R : Int32 → Prop, R (-1) → wpY_known R (g_begun, g_opened, g_now, g_endings, g_lost, g_got, g_taken, g_fault, nI s1, nI sz, g_source, a, g_found, b_kinds, b_extras, b_state, b_due, b_placeOf, b_used, b_bodies, b_sizes, b_ended, b_frame) (nI ty) (nI (fb_f a)) (nI (fb_w a)) := by
          intro R hR
          have hf0 := k1.2.2.1
          refine fy_known hy hs u3 (by omega) (by omega) (fb_wlt a) (fun _ => hR) (fun h15 hk _ => ?_) (fun h15 hk _ _ _ => ?_)
          · unfold fb_ky at k2; rw [if_pos h15] at k2; exact absurd k2 hk
          · unfold fb_ky at k2; rw [if_pos h15] at k2; exact absurd k2 hk
        have go : ∀ (ka : Int32) (vr' : Int64), (∀ R : Int32 → SY → Prop, R (nI s') (g_begun, g_opened, g_now, g_endings, g_lost, g_got, g_taken, g_fault, ka, nI sz, g_source, vr', g_found, b_kinds, b_extras, b_state, b_due, b_placeOf, b_used, b_bodies, b_sizes, b_ended, b_frame) → wpY_length R (g_begun, g_opened, g_now, g_endings, g_lost, g_got, g_taken, g_fault, nI s1, nI sz, g_source, a, g_found, b_kinds, b_extras, b_state, b_due, b_placeOf, b_used, b_bodies, b_sizes, b_ended, b_frame) (nI e) (nI (fb_w a))) → ∃ ex stkl atl st vr, (e, ty, pa) :: r = ex ++ stkl ∧ fl_On q (fl_Dq q) stkl ∧ fl_Po q j s' ex stkl none atl ∧ st + stkl.length ≤ atl + 1 ∧ atl ≤ sz ∧ (∀ (post : Int32 → SY → Prop) (n : Nat), fl_W post g_begun g_opened g_now g_endings g_lost g_got g_taken g_fault (nI atl) (nI sz) g_source vr g_found b_kinds b_extras b_state b_due b_placeOf b_used b_bodies b_sizes b_ended b_frame q j kk n stkl (fb_F j (C q)) st → wY_look_135 post (nI q) (nI j) kk (nI (fl_Dq q)) (n + st) 0 0 (lN sz) 0 0 0 g_begun g_opened g_now g_endings g_lost g_got g_taken g_fault 0 (nI sz) g_source v0 g_found b_kinds b_extras b_state b_due b_placeOf b_used b_bodies b_sizes b_ended b_frame) := by
          intro ka vr' hl
          refine ⟨[], (e, ty, pa) :: r, s', st + 1, vr', rfl, hOn, Or.inl ⟨rfl, rfl, rfl⟩, by omega, by omega, fun post n K => ?_⟩
          rw [show n + (st + 1) = (n + 1) + st from by omega]
          refine H post (n + 1) ?_
          exact fl_head (l := r.length) (ty := ty) (e := e) hB (by omega) u5 hD2 hq (by omega) (by omega) (by omega) (by omega) k1 (by omega) kn hl (fl_over (by omega) (hst _) u5 hD2 (Or.inl fa_m1l) K)
        rcases k3 with ⟨kw, b, kv⟩ | ⟨kw, kv⟩ | ⟨kw, s2, m, kv, ke, kk'⟩
        · refine go (nI s1) b (fun R hR => ?_)
          rw [kw]; exact fl_len0 hB kv (by omega) (by omega) hR
        · refine go (nI s1) a (fun R hR => fl_lenF kw ?_)
          rw [← kv]; exact hR
        · have lv := fb_VrL kv
          refine go (nI s2) (lN m) (fun R hR => ?_)
          rw [kw]
          refine fl_len2 hB kv (by omega) (by omega) ?_
          rw [← kk']; exact hR
      · cases h
      · exact ⟨_, stkl, _, st, vr, e1, hOn, Or.inr (Or.inr ⟨ex', _, ty', pa', rfl, hne, rfl, h1, h2⟩), hb, ha, H⟩
    · cases h
  · intro s e ty pa r C s1 a s' b t0 ih k1 k2 k3
    obtain ⟨w1, w2, w3⟩ := fy_enc2 (fb_W hs t0).1 hz
    obtain ⟨u1, u2, u3, u4, u5⟩ := fb_WStop (fb_W hs t0).1
    have l1 := fb_KeyL k1
    have l2 := fb_SvL k3 k1.2.2.2.2
    have hfl := fb_flt a
    have hcn := fl_cnt t0 q j
    obtain ⟨y1, y2, y3⟩ := fb_kyE k2
    have hf0 := k1.2.2.1
    have hw2 : fb_w a ≠ 2 := by
      rcases k3 with ⟨k, _⟩ | ⟨k, _⟩ <;> omega
    have hwk : fb_w a = fb_wk ((fb_ky sch ty a - 1) / 4) := y3.resolve_right (fun z => hw2 z.1)
    have hk6 : (fb_ky sch ty a - 1) / 4 ≠ 6 := by
      intro z
      rw [z] at hwk
      exact hw2 hwk
    have hk28 := (hs (ty * 16 + fb_f a))
    rw [y2] at hk28
    have g := fb_Gr_ad C pa (fb_f a) ((fb_ky sch ty a - 1) % 2) (fb_cv ((fb_ky sch ty a - 1) / 4) b)
    rcases ih with ⟨ex, stkl, atl, st, vr, e1, hOn, hPo, hb, ha, H⟩ | ⟨_, _, _, _, _, _, _, _, _, _, _, h, _⟩
    · left
      rcases hPo with ⟨rfl, _, rfl⟩ | ⟨_, _, _, _, _, _, _, _, h, _⟩ | ⟨ex', e', ty', pa', rfl, hne, rfl, h1, h2⟩
      · rw [List.nil_append] at e1
        subst e1
        have hlen : ((e, ty, pa) :: r).length = r.length + 1 := rfl
        have ee : fy_eE ((e, ty, pa) :: r) = fy_eE r * 256 + e := rfl
        have et : fy_eT ((e, ty, pa) :: r) = fy_eT r * 16 + ty := rfl
        have kn : ∀ R : Int32 → Prop, R (nI ((fb_ky sch ty a - 1) / 4)) → wpY_known R (g_begun, g_opened, g_now, g_endings, g_lost, g_got, g_taken, g_fault, nI s1, nI sz, g_source, a, g_found, b_kinds, b_extras, b_state, b_due, b_placeOf, b_used, b_bodies, b_sizes, b_ended, b_frame) (nI ty) (nI (fb_f a)) (nI (fb_w a)) := by
          intro R hR
          refine fy_known hy hs u3 (by omega) (by omega) (fb_wlt a) (fun hk => ?_) (fun h15 hk _ => ?_) (fun h15 hk hwk' _ _ => ?_)
          · exact absurd hk k2
          · rw [y2]; exact hR
          · rw [y2] at hwk'; exact absurd hwk hwk'
        obtain ⟨vr', hl⟩ : ∃ vr', ∀ R : Int32 → SY → Prop, R (nI s') (g_begun, g_opened, g_now, g_endings, g_lost, g_got, g_taken, g_fault, nI s1, nI sz, g_source, vr', g_found, b_kinds, b_extras, b_state, b_due, b_placeOf, b_used, b_bodies, b_sizes, b_ended, b_frame) → wpY_length R (g_begun, g_opened, g_now, g_endings, g_lost, g_got, g_taken, g_fault, nI s1, nI sz, g_source, a, g_found, b_kinds, b_extras, b_state, b_due, b_placeOf, b_used, b_bodies, b_sizes, b_ended, b_frame) (nI e) (nI (fb_w a)) := by
          rcases k3 with ⟨kw, kv⟩ | ⟨kw, kv, _⟩
          · exact ⟨b, fun R hR => by rw [kw]; exact fl_len0 hB kv (by omega) (by omega) hR⟩
          · exact ⟨a, fun R hR => fl_lenF kw (by rw [← kv]; exact hR)⟩
        by_cases hm : r.length = fl_Dq q ∧ fb_f a = j
        · obtain ⟨hm1, hm2⟩ := hm
          have hpq : pa = q := by
            rcases fl_OnP hOn hq with ⟨h, _⟩ | ⟨_, h⟩
            · omega
            · exact h
          have hfs : fb_f a = fl_st q (fl_Dq q) j r.length := by unfold fl_st; rw [if_pos (by omega)]; exact hm2
          obtain ⟨o1, o2⟩ := (fb_C hs t0).2.2.2 _ List.mem_cons_self
          have hel : fb_El B s' ((fb_ky sch ty a - 1) / 4) s1 s' b := by
            rcases k3 with ⟨kw, kv⟩ | ⟨kw, kv, kb⟩
            · rw [kw] at hwk
              have hn3 : (fb_ky sch ty a - 1) / 4 ≠ 3 := fun z => by rw [z] at hwk; exact absurd hwk (by decide)
              have hn5 : (fb_ky sch ty a - 1) / 4 ≠ 5 := fun z => by rw [z] at hwk; exact absurd hwk (by decide)
              obtain ⟨n, p1, p2, p3, p4, p5, p6⟩ := kv
              exact Or.inr (Or.inr ⟨hn3, hn5, n, p1, p2, p3, p4, Nat.le_refl _, p6⟩)
            · rcases kw with kw | kw
              · rw [kw] at hwk kv kb
                have h5 : (fb_ky sch ty a - 1) / 4 = 5 := by
                  unfold fb_wk at hwk
                  by_cases z3 : (fb_ky sch ty a - 1) / 4 = 3
                  · rw [if_pos z3] at hwk; omega
                  · rw [if_neg z3] at hwk
                    by_cases z5 : (fb_ky sch ty a - 1) / 4 = 5
                    · exact z5
                    · rw [if_neg z5, if_neg hk6] at hwk; omega
                exact Or.inr (Or.inl ⟨h5, kv, kb⟩)
              · rw [kw] at hwk kv kb
                have h3 : (fb_ky sch ty a - 1) / 4 = 3 := by
                  unfold fb_wk at hwk
                  by_cases z3 : (fb_ky sch ty a - 1) / 4 = 3
                  · exact z3
                  · rw [if_neg z3] at hwk
                    by_cases z5 : (fb_ky sch ty a - 1) / 4 = 5
                    · rw [if_pos z5] at hwk; omega
                    · rw [if_neg z5, if_neg hk6] at hwk; omega
                exact Or.inl ⟨h3, kv, kb⟩
          have hmod : (fb_ky sch ty a - 1) / 4 % 10 = (fb_ky sch ty a - 1) / 4 := Nat.mod_eq_of_lt (by omega)
          have hF : nI ((if (sch (ty * 16 + fb_f a) - 1) % 4 = 1 then (fb_F j (C q)).length else 0) + 1) = nI (fb_F j (fb_ad C pa (fb_f a) ((fb_ky sch ty a - 1) % 2) (fb_cv ((fb_ky sch ty a - 1) / 4) b) q)).length ∧ (if nI (if (sch (ty * 16 + fb_f a) - 1) % 4 = 1 then (fb_F j (C q)).length else 0) = kk then fb_cv ((fb_ky sch ty a - 1) / 4) b else fl_v kk (fb_F j (C q))) = fl_v kk (fb_F j (fb_ad C pa (fb_f a) ((fb_ky sch ty a - 1) % 2) (fb_cv ((fb_ky sch ty a - 1) / 4) b) q)) := by
            unfold fb_ad
            rw [y2, hpq, fb_up_s, hm2]
            by_cases hr : (fb_ky sch ty a - 1) % 4 = 1
            · rw [if_pos hr, if_pos (show (fb_ky sch ty a - 1) % 2 = 1 from by omega), fb_F_app, fb_F_one, if_pos rfl, List.length_append]
              exact ⟨rfl, (fl_va (by omega)).symm⟩
            · have hr2 : ¬ (fb_ky sch ty a - 1) % 2 = 1 := by omega
              have hone := (fb_C hs t0).2.1 pa ty (fb_f a) o2 (Or.inl (by show ¬ (sch (ty * 16 + fb_f a) - 1) % 2 = 1; rw [y2]; exact hr2))
              rw [hpq, hm2] at hone
              rw [if_neg hr, if_neg hr2, fb_F_sg hone]
              exact ⟨rfl, (fl_vs hone).symm⟩
          obtain ⟨vr2, hE⟩ := fl_elem (g_begun := g_begun) (g_opened := g_opened) (g_now := g_now) (g_endings := g_endings) (g_lost := g_lost) (g_got := g_got) (g_taken := g_taken) (g_fault := g_fault) (g_varint := vr') (g_found := g_found) (b_kinds := b_kinds) (b_extras := b_extras) (b_state := b_state) (b_due := b_due) (b_placeOf := b_placeOf) (b_used := b_used) (b_sizes := b_sizes) (b_ended := b_ended) hB hel (by omega) (by omega) (by omega)
          refine ⟨[], (e, ty, pa) :: r, s', st + 1, vr2, rfl, hOn, Or.inl ⟨rfl, rfl, rfl⟩, by omega, by omega, fun post n K => ?_⟩
          rw [show n + (st + 1) = (n + 1) + st from by omega]
          refine H post (n + 1) ?_
          refine fl_head (l := r.length) (ty := ty) (e := e) hB (by omega) u5 hD2 hq (by omega) (by omega) (by omega) (by omega) k1 (by omega) kn hl ?_
          refine fl_vals (m := 2) (by omega) u5 hfs hk6 (by omega) u3 y1 hy (by rw [y2]; exact k2) (by omega) (by omega) ?_
          refine fl_one (x' := s') hmod (by omega) (by omega) (by omega) (by omega) hE (fl_last (Nat.le_refl _) ?_)
          unfold fl_W at K
          rw [hF.1, hF.2]
          exact K
        · have hun : pa ≠ q ∨ fb_f a ≠ j := by
            rcases fl_OnP hOn hq with ⟨_, h⟩ | ⟨h, _⟩
            · exact Or.inl h
            · exact Or.inr (fun z => hm ⟨h, z⟩)
          have hov : nI ((fb_ky sch ty a - 1) / 4) < 0 ∨ fb_f a ≠ fl_st q (fl_Dq q) j r.length ∨ (r.length < fl_Dq q ∧ ¬ nI ((fb_ky sch ty a - 1) / 4) = 6) := by
            rcases fl_OnP hOn hq with ⟨h, _⟩ | ⟨h, _⟩
            · exact Or.inr (Or.inr ⟨h, fun z => hk6 ((nI_eq (b := 6) (by omega) (by decide)).mp z)⟩)
            · refine Or.inr (Or.inl ?_)
              unfold fl_st
              rw [if_pos (by omega)]
              exact fun z => hm ⟨h, z⟩
          refine ⟨[], (e, ty, pa) :: r, s', st + 1, vr', rfl, hOn, Or.inl ⟨rfl, rfl, rfl⟩, by omega, by omega, fun post n K => ?_⟩
          rw [show n + (st + 1) = (n + 1) + st from by omega]
          refine H post (n + 1) ?_
          rw [fl_F g hun] at K
          exact fl_head (l := r.length) (ty := ty) (e := e) hB (by omega) u5 hD2 hq (by omega) (by omega) (by omega) (by omega) k1 (by omega) kn hl (fl_over (by omega) (hst _) u5 hD2 hov K)
      · cases h
      · refine ⟨_, stkl, _, st, vr, e1, hOn, Or.inr (Or.inr ⟨ex', _, ty', pa', rfl, hne, rfl, h1, h2⟩), hb, ha, ?_⟩
        rw [fl_F g (Or.inl (fl_tp (fb_W hs t0).1 e1 hne h1 h2))]
        exact H
    · cases h
  · intro s e ty pa r C s1 a s2 m t0 ih k1 k2 k3 k4 k5 k6 k7
    obtain ⟨w1, w2, w3⟩ := fy_enc2 (fb_W hs t0).1 hz
    obtain ⟨u1, u2, u3, u4, u5⟩ := fb_WStop (fb_W hs t0).1
    have l1 := fb_KeyL k1
    have l2 := fb_VrL k5
    have hfl := fb_flt a
    obtain ⟨y1, y2, y3⟩ := fb_kyE k3
    have hf0 := k1.2.2.1
    have g := fb_Gr_ms C pa (fb_f a)
    rcases ih with ⟨ex, stkl, atl, st, vr, e1, hOn, hPo, hb, ha, H⟩ | ⟨_, _, _, _, _, _, _, _, _, _, _, h, _⟩
    · left
      rcases hPo with ⟨rfl, _, rfl⟩ | ⟨_, _, _, _, _, _, _, _, h, _⟩ | ⟨ex', e', ty', pa', rfl, hne, rfl, h1, h2⟩
      · rw [List.nil_append] at e1
        subst e1
        have hlen : ((e, ty, pa) :: r).length = r.length + 1 := rfl
        have hlen2 : ((s2 + m, (fb_ky sch ty a - 1) % 4, pa * 16 + fb_f a) :: (e, ty, pa) :: r).length = r.length + 2 := rfl
        have ee : fy_eE ((e, ty, pa) :: r) = fy_eE r * 256 + e := rfl
        have et : fy_eT ((e, ty, pa) :: r) = fy_eT r * 16 + ty := rfl
        have kn : ∀ R : Int32 → Prop, R 6 → wpY_known R (g_begun, g_opened, g_now, g_endings, g_lost, g_got, g_taken, g_fault, nI s1, nI sz, g_source, a, g_found, b_kinds, b_extras, b_state, b_due, b_placeOf, b_used, b_bodies, b_sizes, b_ended, b_frame) (nI ty) (nI (fb_f a)) (nI (fb_w a)) := by
          intro R hR
          refine fy_known hy hs u3 (by omega) (by omega) (fb_wlt a) (fun hk => ?_) (fun h15 hk _ => ?_) (fun h15 hk hwk' _ _ => ?_)
          · exact absurd hk k3
          · rw [y2, k4]; exact hR
          · rw [y2, k4, k2] at hwk'; exact absurd rfl hwk'
        have hl : ∀ R : Int32 → SY → Prop, R (nI (s2 + m)) (g_begun, g_opened, g_now, g_endings, g_lost, g_got, g_taken, g_fault, nI s2, nI sz, g_source, lN m, g_found, b_kinds, b_extras, b_state, b_due, b_placeOf, b_used, b_bodies, b_sizes, b_ended, b_frame) → wpY_length R (g_begun, g_opened, g_now, g_endings, g_lost, g_got, g_taken, g_fault, nI s1, nI sz, g_source, a, g_found, b_kinds, b_extras, b_state, b_due, b_placeOf, b_used, b_bodies, b_sizes, b_ended, b_frame) (nI e) (nI (fb_w a)) := by
          intro R hR
          rw [k2]; exact fl_len2 hB k5 (by omega) (by omega) hR
        have over3 : (pa ≠ q ∨ fb_f a ≠ j) → fb_f a ≠ fl_st q (fl_Dq q) j r.length → q ≠ pa * 16 + fb_f a → q / 16 ≠ pa * 16 + fb_f a → ∃ ex stkl atl st vr, (s2 + m, (fb_ky sch ty a - 1) % 4, pa * 16 + fb_f a) :: (e, ty, pa) :: r = ex ++ stkl ∧ fl_On q (fl_Dq q) stkl ∧ fl_Po q j s2 ex stkl none atl ∧ st + stkl.length ≤ atl + 1 ∧ atl ≤ sz ∧ (∀ (post : Int32 → SY → Prop) (n : Nat), fl_W post g_begun g_opened g_now g_endings g_lost g_got g_taken g_fault (nI atl) (nI sz) g_source vr g_found b_kinds b_extras b_state b_due b_placeOf b_used b_bodies b_sizes b_ended b_frame q j kk n stkl (fb_F j (fb_ms C pa (fb_f a) q)) st → wY_look_135 post (nI q) (nI j) kk (nI (fl_Dq q)) (n + st) 0 0 (lN sz) 0 0 0 g_begun g_opened g_now g_endings g_lost g_got g_taken g_fault 0 (nI sz) g_source v0 g_found b_kinds b_extras b_state b_due b_placeOf b_used b_bodies b_sizes b_ended b_frame) := by
          intro hun hne' h1 h2
          refine ⟨[(s2 + m, (fb_ky sch ty a - 1) % 4, pa * 16 + fb_f a)], (e, ty, pa) :: r, s2 + m, st + 1, lN m, rfl, hOn, Or.inr (Or.inr ⟨[], _, _, _, rfl, by simp, rfl, h1, h2⟩), by omega, by omega, fun post n K => ?_⟩
          rw [show n + (st + 1) = (n + 1) + st from by omega]
          refine H post (n + 1) ?_
          rw [fl_F g hun] at K
          exact fl_head (l := r.length) (ty := ty) (e := e) hB (by omega) u5 hD2 hq (by omega) (by omega) (by omega) (by omega) k1 (by omega) kn hl (fl_over (by omega) (hst _) u5 hD2 (Or.inr (Or.inl hne')) K)
        have hOn' := hOn
        obtain ⟨o0, o1, o2, o3, _⟩ := hOn'
        simp only at o1 o2 o3
        rcases fl_OnP hOn hq with ⟨hlt, hpq⟩ | ⟨hlt, hpq⟩
        · have hpf : pa * 16 + fl_st q (fl_Dq q) j r.length = (if r.length = 0 then (if fl_Dq q = 1 then q else q / 16) else q) ∧ (pa = if r.length = 0 then 0 else q / 16) := by
            unfold fl_st
            rw [if_neg (by omega)]
            unfold fl_Dq at hlt o2 ⊢
            by_cases a0 : q = 0
            · rw [if_pos a0] at hlt; omega
            · rw [if_neg a0] at hlt o2 ⊢
              by_cases a1 : q < 16
              · rw [if_pos a1] at hlt o2 ⊢
                have hr0 : r.length = 0 := by omega
                have := o1 hr0
                rw [if_neg (by omega), if_pos hr0, if_pos rfl, if_pos hr0]
                omega
              · rw [if_neg a1] at hlt o2 ⊢
                by_cases hr0 : r.length = 0
                · have := o1 hr0
                  rw [if_pos ⟨hr0, rfl⟩, if_pos hr0, if_neg (by decide), if_pos hr0]
                  omega
                · have hr1 : r.length = 1 := by omega
                  have := o2 hr1
                  rw [if_neg (by decide)] at this
                  rw [if_neg (by omega), if_neg hr0, if_neg hr0]
                  omega
          by_cases hf : fb_f a = fl_st q (fl_Dq q) j r.length
          · have hx : b_extras (ty * 16 + fb_f a) = nI ((fb_ky sch ty a - 1) % 4) := by rw [(hy _ (by omega)).2, y2, if_neg k3]
            refine ⟨[], (s2 + m, (fb_ky sch ty a - 1) % 4, pa * 16 + fb_f a) :: (e, ty, pa) :: r, s2, st + 1, lN m, rfl, ⟨by omega, fun z => by simp at z, fun z => ?_, fun z => ?_, hOn⟩, Or.inl ⟨rfl, rfl, rfl⟩, by omega, by omega, fun post n K => ?_⟩
            · have hr0 : r.length = 0 := by omega
              show pa * 16 + fb_f a = _
              rw [hf, hpf.1, if_pos hr0]
            · have hr0 : ¬ r.length = 0 := by omega
              show pa * 16 + fb_f a = _
              rw [hf, hpf.1, if_neg hr0]
            · rw [show n + (st + 1) = (n + 1) + st from by omega]
              refine H post (n + 1) ?_
              rw [fl_F g (Or.inl hpq)] at K
              exact fl_head (l := r.length) (ty := ty) (e := e) hB (by omega) u5 hD2 hq (by omega) (by omega) (by omega) (by omega) k1 (by omega) kn hl (fl_into hlt hD2 (by omega) (by omega) (by omega) u3 y1 (by omega) hx hf K)
          · refine over3 (Or.inl hpq) hf ?_ ?_
            · intro z
              obtain ⟨z1, z2⟩ := hpf
              by_cases hr0 : r.length = 0
              · rw [if_pos hr0] at z1 z2
                by_cases hD1 : fl_Dq q = 1
                · rw [if_pos hD1] at z1; omega
                · rw [if_neg hD1] at z1
                  have : q < 16 → fl_Dq q ≤ 1 := fun h => by unfold fl_Dq; split <;> (try rw [if_pos h]) <;> omega
                  omega
              · rw [if_neg hr0] at z1 z2; omega
            · intro z
              obtain ⟨z1, z2⟩ := hpf
              by_cases hr0 : r.length = 0
              · rw [if_pos hr0] at z1 z2
                by_cases hD1 : fl_Dq q = 1
                · have : 16 ≤ q → fl_Dq q = 2 := fun h => by unfold fl_Dq; rw [if_neg (by omega), if_neg (by omega)]
                  omega
                · rw [if_neg hD1] at z1; omega
              · rw [if_neg hr0] at z1 z2
                have : fl_Dq q = 2 → 16 ≤ q := fun h => by
                  unfold fl_Dq at h
                  by_cases q0 : q = 0
                  · rw [if_pos q0] at h; omega
                  · rw [if_neg q0] at h
                    by_cases q1 : q < 16
                    · rw [if_pos q1] at h; omega
                    · omega
                omega
        · have hfs : fl_st q (fl_Dq q) j r.length = j := by unfold fl_st; rw [if_pos (by omega)]
          by_cases hf : fb_f a = j
          · obtain ⟨oo1, oo2⟩ := (fb_C hs t0).2.2.2 _ List.mem_cons_self
            have hone := (fb_C hs t0).2.1 pa ty (fb_f a) oo2 (Or.inr (by show (sch (ty * 16 + fb_f a) - 1) / 4 = 6; rw [y2]; exact k4))
            rw [hpq, hf] at hone
            have hF : fb_F j (fb_ms C pa (fb_f a) q) = if fb_F j (C q) = [] then [(j, 0)] else fb_F j (C q) := by
              unfold fb_ms
              rw [hpq, fb_up_s, hf, fb_F_mk_eq]
            have hFl : (fb_F j (fb_ms C pa (fb_f a) q)).length = 1 := by
              rw [hF]
              split
              · rfl
              · rename_i hh
                have : 0 < (fb_F j (C q)).length := List.length_pos_iff.mpr hh
                omega
            refine ⟨[(s2 + m, (fb_ky sch ty a - 1) % 4, pa * 16 + fb_f a)], (e, ty, pa) :: r, s2 + m, st + 1, lN m, rfl, hOn, Or.inr (Or.inr ⟨[], _, _, _, rfl, by simp, rfl, by omega, by omega⟩), by omega, by omega, fun post n K => ?_⟩
            rw [show n + (st + 1) = (n + 1) + st from by omega]
            refine H post (n + 1) ?_
            unfold fl_W at K
            rw [hFl, hF, fl_vm] at K
            exact fl_head (l := r.length) (ty := ty) (e := e) hB (by omega) u5 hD2 hq (by omega) (by omega) (by omega) (by omega) k1 (by omega) kn hl (fl_msg (by omega) u5 (by rw [hfs]; exact hf) K)
          · have z1 : q ≠ pa * 16 + fb_f a := by clear over3 H kn hl; omega
            have z2 : q / 16 ≠ pa * 16 + fb_f a := by clear over3 H kn hl; omega
            exact over3 (Or.inr hf) (by rw [hfs]; exact hf) z1 z2
      · cases h
      · refine ⟨(s2 + m, (fb_ky sch ty a - 1) % 4, pa * 16 + fb_f a) :: (ex' ++ [(atl, ty', pa')]), stkl, atl, st, vr, by rw [e1]; rfl, hOn, Or.inr (Or.inr ⟨(s2 + m, (fb_ky sch ty a - 1) % 4, pa * 16 + fb_f a) :: ex', _, ty', pa', rfl, hne, rfl, h1, h2⟩), hb, ha, ?_⟩
        rw [fl_F g (Or.inl (fl_tp (fb_W hs t0).1 e1 hne h1 h2))]
        exact H
    · cases h
  · intro s e ty pa r C s1 a s2 m t0 ih k1 k2 k3 k4 k5 k6 k7 k8
    obtain ⟨w1, w2, w3⟩ := fy_enc2 (fb_W hs t0).1 hz
    obtain ⟨u1, u2, u3, u4, u5⟩ := fb_WStop (fb_W hs t0).1
    have l1 := fb_KeyL k1
    have l2 := fb_VrL k5
    have hfl := fb_flt a
    obtain ⟨y1, y2, y3⟩ := fb_kyE k3
    have hf0 := k1.2.2.1
    have hnk : ¬ fb_w a = fb_wk ((fb_ky sch ty a - 1) / 4) := fun z => by
      rw [k2] at z
      exact k4 (fb_wk2 z.symm)
    have hrep : (fb_ky sch ty a - 1) % 2 = 1 := (y3.resolve_left hnk).2
    have hk28 := (hs (ty * 16 + fb_f a))
    rw [y2] at hk28
    rcases ih with ⟨ex, stkl, atl, st, vr, e1, hOn, hPo, hb, ha, H⟩ | ⟨_, _, _, _, _, _, _, _, _, _, _, h, _⟩
    · rcases hPo with ⟨rfl, _, rfl⟩ | ⟨_, _, _, _, _, _, _, _, h, _⟩ | ⟨ex', e', ty', pa', rfl, hne, rfl, h1, h2⟩
      · rw [List.nil_append] at e1
        subst e1
        have hlen : ((e, ty, pa) :: r).length = r.length + 1 := rfl
        have ee : fy_eE ((e, ty, pa) :: r) = fy_eE r * 256 + e := rfl
        have et : fy_eT ((e, ty, pa) :: r) = fy_eT r * 16 + ty := rfl
        have kn : ∀ R : Int32 → Prop, R (nI ((fb_ky sch ty a - 1) / 4 + 10)) → wpY_known R (g_begun, g_opened, g_now, g_endings, g_lost, g_got, g_taken, g_fault, nI s1, nI sz, g_source, a, g_found, b_kinds, b_extras, b_state, b_due, b_placeOf, b_used, b_bodies, b_sizes, b_ended, b_frame) (nI ty) (nI (fb_f a)) (nI (fb_w a)) := by
          intro R hR
          refine fy_known hy hs u3 (by omega) (by omega) (fb_wlt a) (fun hk => ?_) (fun h15 hk hwk' => ?_) (fun h15 hk hwk' _ _ => ?_)
          · exact absurd hk k3
          · rw [y2] at hwk'; exact absurd hwk' hnk
          · rw [y2]; exact hR
        have hl : ∀ R : Int32 → SY → Prop, R (nI (s2 + m)) (g_begun, g_opened, g_now, g_endings, g_lost, g_got, g_taken, g_fault, nI s2, nI sz, g_source, lN m, g_found, b_kinds, b_extras, b_state, b_due, b_placeOf, b_used, b_bodies, b_sizes, b_ended, b_frame) → wpY_length R (g_begun, g_opened, g_now, g_endings, g_lost, g_got, g_taken, g_fault, nI s1, nI sz, g_source, a, g_found, b_kinds, b_extras, b_state, b_due, b_placeOf, b_used, b_bodies, b_sizes, b_ended, b_frame) (nI e) (nI (fb_w a)) := by
          intro R hR
          rw [k2]; exact fl_len2 hB k5 (by omega) (by omega) hR
        by_cases hm : r.length = fl_Dq q ∧ fb_f a = j
        · obtain ⟨hm1, hm2⟩ := hm
          right
          have hpq : pa = q := by
            rcases fl_OnP hOn hq with ⟨h, _⟩ | ⟨_, h⟩
            · omega
            · exact h
          have hfs : fb_f a = fl_st q (fl_Dq q) j r.length := by unfold fl_st; rw [if_pos (by omega)]; exact hm2
          refine ⟨e, ty, pa, r, s2 + m, fb_ky sch ty a, fb_f a, st, m + 1, lN m, rfl, rfl, hOn, hpq, hm1, hm2, by omega, by omega, fun post n K => ?_⟩
          rw [show n + (st + 1) = (n + 1) + st from by omega]
          refine H post (n + 1) ?_
          refine fl_head (l := r.length) (ty := ty) (e := e) hB (by omega) u5 hD2 hq (by omega) (by omega) (by omega) (by omega) k1 (by omega) kn hl ?_
          refine fl_vals (m := m + 1) (by omega) u5 hfs (by omega) (by omega) u3 y1 hy (by rw [y2]; exact k3) (by omega) (by omega) ?_
          rw [y2, if_pos (show (fb_ky sch ty a - 1) % 4 = 1 from by omega)]
          exact K
        · left
          have hun : pa ≠ q ∨ fb_f a ≠ j := by
            rcases fl_OnP hOn hq with ⟨_, h⟩ | ⟨h, _⟩
            · exact Or.inl h
            · exact Or.inr (fun z => hm ⟨h, z⟩)
          have hov : nI ((fb_ky sch ty a - 1) / 4 + 10) < 0 ∨ fb_f a ≠ fl_st q (fl_Dq q) j r.length ∨ (r.length < fl_Dq q ∧ ¬ nI ((fb_ky sch ty a - 1) / 4 + 10) = 6) := by
            rcases fl_OnP hOn hq with ⟨h, _⟩ | ⟨h, _⟩
            · exact Or.inr (Or.inr ⟨h, fun z => by have := (nI_eq (b := 6) (by omega) (by decide)).mp z; omega⟩)
            · refine Or.inr (Or.inl ?_)
              unfold fl_st
              rw [if_pos (by omega)]
              exact fun z => hm ⟨h, z⟩
          refine ⟨[], (e, ty, pa) :: r, s2 + m, st + 1, lN m, rfl, hOn, Or.inr (Or.inl ⟨rfl, _, _, _, e, ty, pa, r, rfl, rfl, rfl, hun⟩), by omega, by omega, fun post n K => ?_⟩
          rw [show n + (st + 1) = (n + 1) + st from by omega]
          refine H post (n + 1) ?_
          exact fl_head (l := r.length) (ty := ty) (e := e) hB (by omega) u5 hD2 hq (by omega) (by omega) (by omega) (by omega) k1 (by omega) kn hl (fl_over (by omega) (hst _) u5 hD2 hov K)
      · cases h
      · left
        exact ⟨_, stkl, _, st, vr, e1, hOn, Or.inr (Or.inr ⟨ex', _, ty', pa', rfl, hne, rfl, h1, h2⟩), hb, ha, H⟩
    · cases h
  · intro s e ty pa r C pe en f s' b t0 ih k1 k2
    obtain ⟨u1, u2, u3, u4, u5⟩ := fb_WStop (fb_W hs t0).1
    have l2 := fb_ElL k2
    have hcn := fl_cnt t0 q j
    obtain ⟨e', ty', pa', r', hh, p1, p2, p3, p4, p5, p6, p7, p8, p9, p10⟩ := (fb_W hs t0).2 pe en f rfl
    cases hh
    have hk28 := (hs (ty * 16 + f))
    rw [p5] at hk28
    have g := fb_Gr_ad C pa f ((en - 1) % 2) (fb_cv ((en - 1) / 4) b)
    have hle : s' ≤ pe := by
      rcases k2 with ⟨a1, a2, a3⟩ | ⟨a1, a2, a3⟩ | ⟨a1, a2, a3⟩
      · have := p9 a1; omega
      · have := p10 a1; omega
      · exact (fb_VrL a3).2.1
    rcases ih with ⟨ex, stkl, atl, st, vr, e1, hOn, hPo, hb, ha, H⟩ | ⟨e0, ty0, pa0, r0, pe0, en0, f0, st, m, vr, e1, h, hOn, h1, h2, h3, h4, h5, H⟩
    · left
      rcases hPo with ⟨_, h, _⟩ | ⟨rfl, pe', en', f', e', ty', pa', r', h, e2, rfl, h1⟩ | ⟨ex', e', ty', pa', rfl, hne, rfl, h1, h2⟩
      · cases h
      · cases h
        rw [List.nil_append] at e1
        rw [e2] at e1
        cases e1
        subst e2
        refine ⟨[], (e, ty, pa) :: r, pe, st, vr, rfl, hOn, Or.inr (Or.inl ⟨rfl, _, _, _, e, ty, pa, r, rfl, rfl, rfl, h1⟩), hb, ha, ?_⟩
        rw [fl_F g h1]
        exact H
      · refine ⟨_, stkl, _, st, vr, e1, hOn, Or.inr (Or.inr ⟨ex', _, ty', pa', rfl, hne, rfl, h1, h2⟩), hb, ha, ?_⟩
        rw [fl_F g (Or.inl (fl_tp (fb_W hs t0).1 e1 hne h1 h2))]
        exact H
    · right
      cases e1
      cases h
      obtain ⟨m, rfl⟩ : ∃ k, m = k + 1 := ⟨m - 1, by omega⟩
      have hk6 : (en - 1) / 4 < 6 := by omega
      obtain ⟨vr2, hE⟩ := fl_elem (g_begun := g_begun) (g_opened := g_opened) (g_now := g_now) (g_endings := g_endings) (g_lost := g_lost) (g_got := g_got) (g_taken := g_taken) (g_fault := g_fault) (g_varint := vr) (g_found := g_found) (b_kinds := b_kinds) (b_extras := b_extras) (b_state := b_state) (b_due := b_due) (b_placeOf := b_placeOf) (b_used := b_used) (b_sizes := b_sizes) (b_ended := b_ended) hB k2 (by omega) hk6 (by omega)
      have hF : fb_F j (fb_ad C pa f ((en - 1) % 2) (fb_cv ((en - 1) / 4) b) q) = fb_F j (C q) ++ [(j, fb_cv ((en - 1) / 4) b)] := by
        unfold fb_ad
        rw [h1, fb_up_s, if_pos p8, fb_F_app, fb_F_one, h3, if_pos rfl]
      refine ⟨e, ty, pa, r, pe, en, f, st, m, vr2, rfl, rfl, hOn, h1, h2, h3, by omega, by omega, fun post n K => H post n ?_⟩
      rw [hF, List.length_append, fl_va (by omega)] at K
      exact fl_one (x' := s') (by omega) (by omega) k1 (by omega) (by omega) hE K
/-- what look answers -/
theorem fl_res {C : fb_Con} (hy : fy_Sy sch b_kinds b_extras) (hs : fb_Sc sch) (hz : sz ≤ 60) (hq : q ≤ 255) (hqv : q < 16 ∨ q % 16 ≠ 0) (hj1 : 1 ≤ j) (hj : j ≤ 15) (hB : fy_By g_source b_bodies b_frame B sz) (v0 : Int64) (t : fb_Tr sch B sz sz [] none C) :
    ∃ (at' : Int32) (vr : Int64), ∀ (post : Int32 → SY → Prop), wY_look_487 post kk (nI (fb_F j (C q)).length) (fl_v kk (fb_F j (C q))) g_begun g_opened g_now g_endings g_lost g_got g_taken g_fault at' (nI sz) g_source vr g_found b_kinds b_extras b_state b_due b_placeOf b_used b_bodies b_sizes b_ended b_frame → ∃ n, wY_look_135 post (nI q) (nI j) kk (nI (fl_Dq q)) n 0 0 (lN sz) 0 0 0 g_begun g_opened g_now g_endings g_lost g_got g_taken g_fault 0 (nI sz) g_source v0 g_found b_kinds b_extras b_state b_due b_placeOf b_used b_bodies b_sizes b_ended b_frame := by
  rcases fl_lr (g_begun := g_begun) (g_opened := g_opened) (g_now := g_now) (g_endings := g_endings) (g_lost := g_lost) (g_got := g_got) (g_taken := g_taken) (g_fault := g_fault) (g_found := g_found) (b_state := b_state) (b_due := b_due) (b_placeOf := b_placeOf) (b_used := b_used) (b_sizes := b_sizes) (b_ended := b_ended) (kk := kk) hy hs hz hq hqv hj1 hj hB v0 t with ⟨ex, stkl, atl, st, vr, e1, hOn, hPo, hb, ha, H⟩ | ⟨_, _, _, _, _, _, _, _, _, _, _, h, _⟩
  · have e2 := e1.symm
    rw [List.append_eq_nil_iff] at e2
    obtain ⟨rfl, rfl⟩ := e2
    refine ⟨nI atl, vr, fun post K => ⟨1 + st, H post 1 ?_⟩⟩
    exact fl_end (by omega) K
  · cases h
end
end
section
/-! count and value: the reference's frame of look -/
section
variable {g_begun g_opened : Int32} {g_now : Int64} {g_endings g_lost g_got g_taken g_fault g_at g_there g_source : Int32} {g_varint : Int64} {g_found : Int32} {b_kinds b_extras b_state : Nat → Int32} {b_due : Nat → Int64} {b_placeOf b_used b_bodies b_sizes b_ended b_frame : Nat → Int32} {sch : Nat → Nat} {B : Nat → Int32} {sz : Nat} {kk : Int32}
theorem fl_487 {post : Int32 → SY → Prop} {c : Nat} {v : Int64} (hc : c < 2 ^ 31) (K : ∀ vr, (0 ≤ kk → kk < nI c → vr = v) → post (nI c) (g_begun, g_opened, g_now, g_endings, g_lost, g_got, g_taken, g_fault, g_at, g_there, g_source, vr, g_found, b_kinds, b_extras, b_state, b_due, b_placeOf, b_used, b_bodies, b_sizes, b_ended, b_frame)) : wY_look_487 post kk (nI c) v g_begun g_opened g_now g_endings g_lost g_got g_taken g_fault g_at g_there g_source g_varint g_found b_kinds b_extras b_state b_due b_placeOf b_used b_bodies b_sizes b_ended b_frame := by
  refine br_c (fun h => K 0 (fun _ h2 => absurd h2 (Int32.not_lt.mpr h))) (fun h => br_c (fun h2 => K 0 (fun h3 _ => absurd h2 (Int32.not_lt.mpr h3))) (fun h2 => K v (fun _ _ => rfl)))
/-- a question that no reply answers -/
theorem fl_no {post : Int32 → SY → Prop} {o : Nat} {x1 x2 x3 : Int32} (ho : o ≤ 200)
    (h : (x1 < 0 ∨ nI o ≤ x1) ∨ (∃ i, i < o ∧ x1 = nI i ∧ ¬ b_state i = 2) ∨ x2 < 0 ∨ 255 < x2 ∨ (∃ q, 16 ≤ q ∧ q ≤ 255 ∧ x2 = nI q ∧ q % 16 = 0) ∨ x3 < 1 ∨ 15 < x3)
    (K : post 0 (g_begun, nI o, g_now, g_endings, g_lost, g_got, g_taken, g_fault, g_at, g_there, g_source, g_varint, g_found, b_kinds, b_extras, b_state, b_due, b_placeOf, b_used, b_bodies, b_sizes, b_ended, b_frame)) : wpY_look post (g_begun, nI o, g_now, g_endings, g_lost, g_got, g_taken, g_fault, g_at, g_there, g_source, g_varint, g_found, b_kinds, b_extras, b_state, b_due, b_placeOf, b_used, b_bodies, b_sizes, b_ended, b_frame) x1 x2 x3 kk := by
  have k35 : ∀ z0 : Int32, (z0 = 0 ∨ (x1 < 0 ∨ nI o ≤ x1) ∨ (∃ i, i < o ∧ x1 = nI i ∧ ¬ b_state i = 2) ∨ x3 < 1 ∨ 15 < x3) → wY_look_35 post x1 x2 x3 kk z0 g_begun (nI o) g_now g_endings g_lost g_got g_taken g_fault g_at g_there g_source g_varint g_found b_kinds b_extras b_state b_due b_placeOf b_used b_bodies b_sizes b_ended b_frame := by
    intro z0 hz
    unfold wY_look_35
    refine fc_sta ho (fun h0 => br_f (by decide) K) (fun i hi hx => ?_)
    refine br_c (fun h2 => ?_) (fun _ => K)
    refine br_c (fun _ => K) (fun hz0 => br_c (fun _ => K) (fun h3 => br_c (fun h15 => ?_) (fun _ => K)))
    exfalso
    rcases hz with hz | hz | ⟨i', hi', hx', hn⟩ | hz | hz
    · exact hz0 hz
    · rcases hz with hz | hz
      · rw [hx] at hz; exact nI_pos (by omega) hz
      · rw [hx] at hz; exact nI_ge hi (by omega) hz
    · rw [hx] at hx'
      have e := (nI_eq (by omega) (by omega)).mp hx'
      subst e
      exact hn h2
    · exact h3 hz
    · exact absurd h15 (Int32.not_le.mpr hz)
  have k30 : ((x1 < 0 ∨ nI o ≤ x1) ∨ (∃ i, i < o ∧ x1 = nI i ∧ ¬ b_state i = 2) ∨ x3 < 1 ∨ 15 < x3) → wY_look_30 post x1 x2 x3 kk g_begun (nI o) g_now g_endings g_lost g_got g_taken g_fault g_at g_there g_source g_varint g_found b_kinds b_extras b_state b_due b_placeOf b_used b_bodies b_sizes b_ended b_frame := fun h => k35 1 (Or.inr h)
  have k34 : wY_look_34 post x1 x2 x3 kk g_begun (nI o) g_now g_endings g_lost g_got g_taken g_fault g_at g_there g_source g_varint g_found b_kinds b_extras b_state b_due b_placeOf b_used b_bodies b_sizes b_ended b_frame := k35 0 (Or.inl rfl)
  have k10 : ((x1 < 0 ∨ nI o ≤ x1) ∨ (∃ i, i < o ∧ x1 = nI i ∧ ¬ b_state i = 2) ∨ x3 < 1 ∨ 15 < x3) ∨ x2 < 0 ∨ 255 < x2 ∨ (∃ q, 16 ≤ q ∧ q ≤ 255 ∧ x2 = nI q ∧ q % 16 = 0) → wY_look_10 post x1 x2 x3 kk g_begun (nI o) g_now g_endings g_lost g_got g_taken g_fault g_at g_there g_source g_varint g_found b_kinds b_extras b_state b_due b_placeOf b_used b_bodies b_sizes b_ended b_frame := by
    intro h
    refine br_c (fun _ => k34) (fun h16 => br_c (fun _ => k34) (fun h255 => And.intro (by decide) ?_))
    refine br_c (fun _ => k34) (fun hr => k30 ?_)
    rcases h with h | h | h | ⟨q, q1, q2, rfl, q3⟩
    · exact h
    · exact absurd (Int32.lt_of_lt_of_le h (by decide)) h16
    · exact absurd h h255
    · exfalso
      refine hr ?_
      have e : nI q - nI q / 16 * 16 = nI (q % 16) := pk_rem (d := 16) (by omega) (by decide) (by decide)
      rw [e, q3]; rfl
  have hh : ((x1 < 0 ∨ nI o ≤ x1) ∨ (∃ i, i < o ∧ x1 = nI i ∧ ¬ b_state i = 2) ∨ x3 < 1 ∨ 15 < x3) ∨ x2 < 0 ∨ 255 < x2 ∨ (∃ q, 16 ≤ q ∧ q ≤ 255 ∧ x2 = nI q ∧ q % 16 = 0) := by
    rcases h with h | h | h | h | h | h | h
    · exact Or.inl (Or.inl h)
    · exact Or.inl (Or.inr (Or.inl h))
    · exact Or.inr (Or.inl h)
    · exact Or.inr (Or.inr (Or.inl h))
    · exact Or.inr (Or.inr (Or.inr h))
    · exact Or.inl (Or.inr (Or.inr (Or.inl h)))
    · exact Or.inl (Or.inr (Or.inr (Or.inr h)))
  refine br_c (fun _ => k10 hh) (fun h0 => br_c (fun h15 => k30 ?_) (fun _ => k10 hh))
  rcases hh with h | h | h | ⟨q, q1, q2, rfl, q3⟩
  · exact h
  · exact absurd h h0
  · exact absurd (Int32.lt_of_lt_of_le h h15) (by decide)
  · exact absurd h15 (nI_ge (a := 15) (by omega) (by omega))
/-- a question that a reply answers -/
theorem fl_yes {post : Int32 → SY → Prop} {o i p q j : Nat} {C : fb_Con} (ho : o ≤ 200) (hi : i < o) (hst : b_state i = 2) (hpl : b_placeOf i = nI p) (hp : p < 6) (hsz : b_sizes p = nI sz) (hz : sz ≤ 60) (hb : ∀ x, x < sz → b_bodies (60 * p + x) = B x) (hy : fy_Sy sch b_kinds b_extras) (hs : fb_Sc sch) (hq : q ≤ 255) (hqv : q < 16 ∨ q % 16 ≠ 0) (hj1 : 1 ≤ j) (hj : j ≤ 15) (t : fb_Tr sch B sz sz [] none C)
    (K : ∀ at' there src vr, (0 ≤ kk → kk < nI (fb_F j (C q)).length → vr = fl_v kk (fb_F j (C q))) → post (nI (fb_F j (C q)).length) (g_begun, nI o, g_now, g_endings, g_lost, g_got, g_taken, g_fault, at', there, src, vr, g_found, b_kinds, b_extras, b_state, b_due, b_placeOf, b_used, b_bodies, b_sizes, b_ended, b_frame)) :
    wpY_look post (g_begun, nI o, g_now, g_endings, g_lost, g_got, g_taken, g_fault, g_at, g_there, g_source, g_varint, g_found, b_kinds, b_extras, b_state, b_due, b_placeOf, b_used, b_bodies, b_sizes, b_ended, b_frame) (nI i) (nI q) (nI j) kk := by
  have hcn := fl_cnt t q j
  have k30 : wY_look_30 post (nI i) (nI q) (nI j) kk g_begun (nI o) g_now g_endings g_lost g_got g_taken g_fault g_at g_there g_source g_varint g_found b_kinds b_extras b_state b_due b_placeOf b_used b_bodies b_sizes b_ended b_frame := by
    show wY_look_35 post (nI i) (nI q) (nI j) kk 1 g_begun (nI o) g_now g_endings g_lost g_got g_taken g_fault g_at g_there g_source g_varint g_found b_kinds b_extras b_state b_due b_placeOf b_used b_bodies b_sizes b_ended b_frame
    unfold wY_look_35
    refine fc_sta ho (fun h0 => ?_) (fun i' hi' hx => ?_)
    · exfalso
      rcases h0 with h0 | h0
      · exact nI_pos (by omega) h0
      · exact nI_ge hi (by omega) h0
    · have e := (nI_eq (by omega) (by omega)).mp hx
      subst e
      have e1 : b_placeOf (nI i).toNatClampNeg = nI p := by rw [nI_clamp (by omega)]; exact hpl
      have e2 : b_sizes (nI p).toNatClampNeg = nI sz := by rw [nI_clamp (by omega)]; exact hsz
      refine br_t hst (br_f (by decide) (br_f (nI_nlt (b := 1) hj1 (by omega)) (br_t (nI_le (b := 15) hj (by decide)) (And.intro (vp_in_nI (by omega) (by decide)) (nm_r e1 (And.intro (vp_in_nI hp (by decide)) (nm_r e2 ?_)))))))
      have hB : fy_By (nI p) b_bodies b_frame B sz := ⟨hz, Or.inr ⟨p, hp, rfl, hb⟩⟩
      obtain ⟨at', vr, H⟩ := fl_res (g_begun := g_begun) (g_opened := nI o) (g_now := g_now) (g_endings := g_endings) (g_lost := g_lost) (g_got := g_got) (g_taken := g_taken) (g_fault := g_fault) (g_found := g_found) (b_state := b_state) (b_due := b_due) (b_placeOf := b_placeOf) (b_used := b_used) (b_sizes := b_sizes) (b_ended := b_ended) (kk := kk) hy hs hz hq hqv hj1 hj hB g_varint t
      have k111 : ∀ z0 : Int32, z0 = nI (fl_Dq q) → wY_look_111 post (nI q) (nI j) kk z0 g_begun (nI o) g_now g_endings g_lost g_got g_taken g_fault 0 (nI sz) (nI p) g_varint g_found b_kinds b_extras b_state b_due b_placeOf b_used b_bodies b_sizes b_ended b_frame := by
        intro z0 hz0
        subst hz0
        unfold wY_look_111
        rw [nI_l (by omega)]
        exact H post (fl_487 (by omega) (fun vr' hv => K _ _ _ _ hv))
      refine pk_eq q 0 (fun h0 => k111 _ ?_) (fun h0 => pk_le 16 q (fun h16 => k111 _ ?_) (fun h16 => k111 _ ?_))
      · unfold fl_Dq; rw [if_pos h0]; rfl
      · unfold fl_Dq; rw [if_neg h0, if_neg (by omega)]; rfl
      · unfold fl_Dq; rw [if_neg h0, if_pos (by omega)]; rfl
  refine br_f (nI_pos (by omega)) (pk_le q 15 (fun _ => k30) (fun h15 => ?_))
  refine br_f (nI_nlt (b := 16) (by omega) (by omega)) (br_f (nI_nlt (a := 255) (by omega) (by omega)) (And.intro (by decide) ?_))
  have e : nI q - nI q / 16 * 16 = nI (q % 16) := pk_rem (d := 16) (by omega) (by decide) (by decide)
  rw [e]
  exact br_f (nI_ne0 (by omega) (by omega)) k30
end
end
section
/-! the relation -/
def fr_Pl (cid : Nat → Option Nat) (stt : Nat → Nat) (cr : Nat → Int32) (PL : Nat → List Nat) (rt : Nat → Nat) (CC : Nat → fb_Con) (bs bb : Nat → Int32) (sch : Nat → Nat) : Prop :=
  ∀ p, p < 6 → (cid p = none → PL p = []) ∧ (∀ i, cid p = some i → (stt p ≠ 2 → PL p = [] ∧ cr p = -1) ∧
    (stt p = 2 → PL p ≠ [] ∧ cr p = nI (rt p) ∧ ∃ (B : Nat → Int32) (sz : Nat), sz ≤ 60 ∧ bs p = nI sz ∧ (∀ x, x < sz → bb (60 * p + x) = B x) ∧ fb_Tr sch B sz sz [] none (CC p)))
def fr_Fr (sch : Nat → Nat) (fl st fc at' lv pe sh nd en nu : Int32) (ac : Int64) (ea ta ce nx fi la fo : Nat → Int32) (va : Nat → Int64) (fr : Int32) (kd : Nat → List Nat) (Fl : List Nat) (PL : Nat → List Nat) (rt : Nat → Nat) (CC : Nat → fb_Con) (got : Int32) (bf : Nat → Int32) : Prop :=
  (fl ≠ 0 → PL 6 = []) ∧
  (fl = 0 → (st = 0 ∧ got = 0 ∧ PL 6 = []) ∨ (st = 1 ∧ got = 1 ∧ PL 6 = [] ∧ ∃ c, c ≤ 255 ∧ fc = nI c ∧ bf 0 = nI c) ∨
    (∃ (c : Nat) (B : Nat → Int32) (sz a s : Nat) (stk : fb_Stk) (pk : Option (Nat × Nat × Nat)), c ≤ 255 ∧ fc = nI c ∧ bf 0 = nI c ∧ sz ≤ 60 ∧ a < sz ∧ bf 1 = nI sz ∧ (∀ i, i < a → bf (2 + i) = B i ∧ vp_nar .short (B i) = B i) ∧ at' = nI a ∧ got = nI (a + 2) ∧
      fx_Fm sch B sz a s stk pk (CC 6) st lv pe sh nd en nu ac ea ta ∧ fx_Hs nx fi la fo va fr ce kd Fl PL rt CC a stk))
def fr_R (k : Nat) (f_begun : Int32) (f_opened : Int32) (f_waiting : Int32) (f_time : Int32) (f_completions : Int32) (f_dropped : Int32) (f_free : Int32) (f_state : Int32) (f_taken : Int32) (f_fault : Int32) (f_frameCall : Int32) (f_at : Int32) (f_level : Int32) (f_packEnd : Int32) (f_shift : Int32) (f_need : Int32) (f_entry : Int32) (f_number : Int32) (f_acc : Int64) (a_schema : Nat → Int32) (a_callId : Nat → Int32) (a_callState : Nat → Int32) (a_deadline : Nat → Int32) (a_callRoot : Nat → Int32) (a_placeOf : Nat → Int32) (a_wheel : Nat → Int32) (a_wheelEnd : Nat → Int32) (a_later : Nat → Int32) (a_sooner : Nat → Int32) (a_done : Nat → Int32) (a_next : Nat → Int32) (a_first : Nat → Int32) (a_last : Nat → Int32) (a_fieldOf : Nat → Int32) (a_val : Nat → Int64) (a_endAt : Nat → Int32) (a_typeOf : Nat → Int32) (a_cellOf : Nat → Int32) (g_begun : Int32) (g_opened : Int32) (g_now : Int64) (g_endings : Int32) (g_lost : Int32) (g_got : Int32) (g_taken : Int32) (g_fault : Int32) (g_at : Int32) (g_there : Int32) (g_source : Int32) (g_varint : Int64) (g_found : Int32) (b_kinds : Nat → Int32) (b_extras : Nat → Int32) (b_state : Nat → Int32) (b_due : Nat → Int64) (b_placeOf : Nat → Int32) (b_used : Nat → Int32) (b_bodies : Nat → Int32) (b_sizes : Nat → Int32) (b_ended : Nat → Int32) (b_frame : Nat → Int32) : Prop :=
  ∃ (o t cp : Nat) (sch : Nat → Nat) (cid : Nat → Option Nat) (stt dl : Nat → Nat) (WL : Nat → List Nat) (kd : Nat → List Nat) (Fl : List Nat) (PL : Nat → List Nat) (rt : Nat → Nat) (CC : Nat → fb_Con),
    (g_begun = f_begun ∧ f_opened = nI o ∧ g_opened = nI o ∧ f_waiting = nI (fc_pw cid stt) ∧ f_time = nI t ∧ g_now = lN t ∧ f_completions = nI cp ∧ g_endings = nI cp ∧ g_lost = f_dropped ∧ g_fault = f_fault ∧ b_ended = a_done) ∧
    t ≤ 200 * k ∧ cp + fc_pw cid stt = o ∧ f_taken = (if f_fault = 0 then g_taken else g_taken + 1) ∧
    fb_Sc sch ∧ (∀ i, i < 64 → a_schema i = nI (sch i)) ∧ fy_Sy sch b_kinds b_extras ∧
    fc_RC o cid stt dl a_callId a_callState a_deadline a_placeOf b_state b_due b_placeOf b_used ∧ fc_RW cid stt dl WL a_wheel a_wheelEnd a_later a_sooner ∧ (∀ q i, q < 6 → cid q = some i → stt q = 1 → t < dl q) ∧
    fh_HR a_next a_first a_last a_fieldOf a_val f_free kd Fl PL rt CC ∧ fr_Pl cid stt a_callRoot PL rt CC b_sizes b_bodies sch ∧
    fr_Fr sch f_fault f_state f_frameCall f_at f_level f_packEnd f_shift f_need f_entry f_number f_acc a_endAt a_typeOf a_cellOf a_next a_first a_last a_fieldOf a_val f_free kd Fl PL rt CC g_got b_frame ∧
    a_typeOf 1 = 0 ∧ (f_begun = 0 → (∀ p, p < 6 → cid p = none) ∧ f_state = 0 ∧ f_fault = 0)
/-- the relation at the head of a turn -/
def i_Rel (k : Nat) (u : SX) (v : SY) : Prop := fr_R k u.1 u.2.1 u.2.2.1 u.2.2.2.1 u.2.2.2.2.1 u.2.2.2.2.2.1 u.2.2.2.2.2.2.1 u.2.2.2.2.2.2.2.1 u.2.2.2.2.2.2.2.2.1 u.2.2.2.2.2.2.2.2.2.1 u.2.2.2.2.2.2.2.2.2.2.1 u.2.2.2.2.2.2.2.2.2.2.2.1 u.2.2.2.2.2.2.2.2.2.2.2.2.1 u.2.2.2.2.2.2.2.2.2.2.2.2.2.1 u.2.2.2.2.2.2.2.2.2.2.2.2.2.2.1 u.2.2.2.2.2.2.2.2.2.2.2.2.2.2.2.1 u.2.2.2.2.2.2.2.2.2.2.2.2.2.2.2.2.1 u.2.2.2.2.2.2.2.2.2.2.2.2.2.2.2.2.2.1 u.2.2.2.2.2.2.2.2.2.2.2.2.2.2.2.2.2.2.1 u.2.2.2.2.2.2.2.2.2.2.2.2.2.2.2.2.2.2.2.1 u.2.2.2.2.2.2.2.2.2.2.2.2.2.2.2.2.2.2.2.2.1 u.2.2.2.2.2.2.2.2.2.2.2.2.2.2.2.2.2.2.2.2.2.1 u.2.2.2.2.2.2.2.2.2.2.2.2.2.2.2.2.2.2.2.2.2.2.1 u.2.2.2.2.2.2.2.2.2.2.2.2.2.2.2.2.2.2.2.2.2.2.2.1 u.2.2.2.2.2.2.2.2.2.2.2.2.2.2.2.2.2.2.2.2.2.2.2.2.1 u.2.2.2.2.2.2.2.2.2.2.2.2.2.2.2.2.2.2.2.2.2.2.2.2.2.1 u.2.2.2.2.2.2.2.2.2.2.2.2.2.2.2.2.2.2.2.2.2.2.2.2.2.2.1 u.2.2.2.2.2.2.2.2.2.2.2.2.2.2.2.2.2.2.2.2.2.2.2.2.2.2.2.1 u.2.2.2.2.2.2.2.2.2.2.2.2.2.2.2.2.2.2.2.2.2.2.2.2.2.2.2.2.1 u.2.2.2.2.2.2.2.2.2.2.2.2.2.2.2.2.2.2.2.2.2.2.2.2.2.2.2.2.2.1 u.2.2.2.2.2.2.2.2.2.2.2.2.2.2.2.2.2.2.2.2.2.2.2.2.2.2.2.2.2.2.1 u.2.2.2.2.2.2.2.2.2.2.2.2.2.2.2.2.2.2.2.2.2.2.2.2.2.2.2.2.2.2.2.1 u.2.2.2.2.2.2.2.2.2.2.2.2.2.2.2.2.2.2.2.2.2.2.2.2.2.2.2.2.2.2.2.2.1 u.2.2.2.2.2.2.2.2.2.2.2.2.2.2.2.2.2.2.2.2.2.2.2.2.2.2.2.2.2.2.2.2.2.1 u.2.2.2.2.2.2.2.2.2.2.2.2.2.2.2.2.2.2.2.2.2.2.2.2.2.2.2.2.2.2.2.2.2.2.1 u.2.2.2.2.2.2.2.2.2.2.2.2.2.2.2.2.2.2.2.2.2.2.2.2.2.2.2.2.2.2.2.2.2.2.2.1 u.2.2.2.2.2.2.2.2.2.2.2.2.2.2.2.2.2.2.2.2.2.2.2.2.2.2.2.2.2.2.2.2.2.2.2.2.1 u.2.2.2.2.2.2.2.2.2.2.2.2.2.2.2.2.2.2.2.2.2.2.2.2.2.2.2.2.2.2.2.2.2.2.2.2.2 v.1 v.2.1 v.2.2.1 v.2.2.2.1 v.2.2.2.2.1 v.2.2.2.2.2.1 v.2.2.2.2.2.2.1 v.2.2.2.2.2.2.2.1 v.2.2.2.2.2.2.2.2.1 v.2.2.2.2.2.2.2.2.2.1 v.2.2.2.2.2.2.2.2.2.2.1 v.2.2.2.2.2.2.2.2.2.2.2.1 v.2.2.2.2.2.2.2.2.2.2.2.2.1 v.2.2.2.2.2.2.2.2.2.2.2.2.2.1 v.2.2.2.2.2.2.2.2.2.2.2.2.2.2.1 v.2.2.2.2.2.2.2.2.2.2.2.2.2.2.2.1 v.2.2.2.2.2.2.2.2.2.2.2.2.2.2.2.2.1 v.2.2.2.2.2.2.2.2.2.2.2.2.2.2.2.2.2.1 v.2.2.2.2.2.2.2.2.2.2.2.2.2.2.2.2.2.2.1 v.2.2.2.2.2.2.2.2.2.2.2.2.2.2.2.2.2.2.2.1 v.2.2.2.2.2.2.2.2.2.2.2.2.2.2.2.2.2.2.2.2.1 v.2.2.2.2.2.2.2.2.2.2.2.2.2.2.2.2.2.2.2.2.2.1 v.2.2.2.2.2.2.2.2.2.2.2.2.2.2.2.2.2.2.2.2.2.2
theorem fr_el {P : SX → SY → Prop} (h : ∀ (f_begun : Int32) (f_opened : Int32) (f_waiting : Int32) (f_time : Int32) (f_completions : Int32) (f_dropped : Int32) (f_free : Int32) (f_state : Int32) (f_taken : Int32) (f_fault : Int32) (f_frameCall : Int32) (f_at : Int32) (f_level : Int32) (f_packEnd : Int32) (f_shift : Int32) (f_need : Int32) (f_entry : Int32) (f_number : Int32) (f_acc : Int64) (a_schema : Nat → Int32) (a_callId : Nat → Int32) (a_callState : Nat → Int32) (a_deadline : Nat → Int32) (a_callRoot : Nat → Int32) (a_placeOf : Nat → Int32) (a_wheel : Nat → Int32) (a_wheelEnd : Nat → Int32) (a_later : Nat → Int32) (a_sooner : Nat → Int32) (a_done : Nat → Int32) (a_next : Nat → Int32) (a_first : Nat → Int32) (a_last : Nat → Int32) (a_fieldOf : Nat → Int32) (a_val : Nat → Int64) (a_endAt : Nat → Int32) (a_typeOf : Nat → Int32) (a_cellOf : Nat → Int32) (g_begun : Int32) (g_opened : Int32) (g_now : Int64) (g_endings : Int32) (g_lost : Int32) (g_got : Int32) (g_taken : Int32) (g_fault : Int32) (g_at : Int32) (g_there : Int32) (g_source : Int32) (g_varint : Int64) (g_found : Int32) (b_kinds : Nat → Int32) (b_extras : Nat → Int32) (b_state : Nat → Int32) (b_due : Nat → Int64) (b_placeOf : Nat → Int32) (b_used : Nat → Int32) (b_bodies : Nat → Int32) (b_sizes : Nat → Int32) (b_ended : Nat → Int32) (b_frame : Nat → Int32), P (f_begun, f_opened, f_waiting, f_time, f_completions, f_dropped, f_free, f_state, f_taken, f_fault, f_frameCall, f_at, f_level, f_packEnd, f_shift, f_need, f_entry, f_number, f_acc, a_schema, a_callId, a_callState, a_deadline, a_callRoot, a_placeOf, a_wheel, a_wheelEnd, a_later, a_sooner, a_done, a_next, a_first, a_last, a_fieldOf, a_val, a_endAt, a_typeOf, a_cellOf) (g_begun, g_opened, g_now, g_endings, g_lost, g_got, g_taken, g_fault, g_at, g_there, g_source, g_varint, g_found, b_kinds, b_extras, b_state, b_due, b_placeOf, b_used, b_bodies, b_sizes, b_ended, b_frame)) (u : SX) (v : SY) : P u v := h u.1 u.2.1 u.2.2.1 u.2.2.2.1 u.2.2.2.2.1 u.2.2.2.2.2.1 u.2.2.2.2.2.2.1 u.2.2.2.2.2.2.2.1 u.2.2.2.2.2.2.2.2.1 u.2.2.2.2.2.2.2.2.2.1 u.2.2.2.2.2.2.2.2.2.2.1 u.2.2.2.2.2.2.2.2.2.2.2.1 u.2.2.2.2.2.2.2.2.2.2.2.2.1 u.2.2.2.2.2.2.2.2.2.2.2.2.2.1 u.2.2.2.2.2.2.2.2.2.2.2.2.2.2.1 u.2.2.2.2.2.2.2.2.2.2.2.2.2.2.2.1 u.2.2.2.2.2.2.2.2.2.2.2.2.2.2.2.2.1 u.2.2.2.2.2.2.2.2.2.2.2.2.2.2.2.2.2.1 u.2.2.2.2.2.2.2.2.2.2.2.2.2.2.2.2.2.2.1 u.2.2.2.2.2.2.2.2.2.2.2.2.2.2.2.2.2.2.2.1 u.2.2.2.2.2.2.2.2.2.2.2.2.2.2.2.2.2.2.2.2.1 u.2.2.2.2.2.2.2.2.2.2.2.2.2.2.2.2.2.2.2.2.2.1 u.2.2.2.2.2.2.2.2.2.2.2.2.2.2.2.2.2.2.2.2.2.2.1 u.2.2.2.2.2.2.2.2.2.2.2.2.2.2.2.2.2.2.2.2.2.2.2.1 u.2.2.2.2.2.2.2.2.2.2.2.2.2.2.2.2.2.2.2.2.2.2.2.2.1 u.2.2.2.2.2.2.2.2.2.2.2.2.2.2.2.2.2.2.2.2.2.2.2.2.2.1 u.2.2.2.2.2.2.2.2.2.2.2.2.2.2.2.2.2.2.2.2.2.2.2.2.2.2.1 u.2.2.2.2.2.2.2.2.2.2.2.2.2.2.2.2.2.2.2.2.2.2.2.2.2.2.2.1 u.2.2.2.2.2.2.2.2.2.2.2.2.2.2.2.2.2.2.2.2.2.2.2.2.2.2.2.2.1 u.2.2.2.2.2.2.2.2.2.2.2.2.2.2.2.2.2.2.2.2.2.2.2.2.2.2.2.2.2.1 u.2.2.2.2.2.2.2.2.2.2.2.2.2.2.2.2.2.2.2.2.2.2.2.2.2.2.2.2.2.2.1 u.2.2.2.2.2.2.2.2.2.2.2.2.2.2.2.2.2.2.2.2.2.2.2.2.2.2.2.2.2.2.2.1 u.2.2.2.2.2.2.2.2.2.2.2.2.2.2.2.2.2.2.2.2.2.2.2.2.2.2.2.2.2.2.2.2.1 u.2.2.2.2.2.2.2.2.2.2.2.2.2.2.2.2.2.2.2.2.2.2.2.2.2.2.2.2.2.2.2.2.2.1 u.2.2.2.2.2.2.2.2.2.2.2.2.2.2.2.2.2.2.2.2.2.2.2.2.2.2.2.2.2.2.2.2.2.2.1 u.2.2.2.2.2.2.2.2.2.2.2.2.2.2.2.2.2.2.2.2.2.2.2.2.2.2.2.2.2.2.2.2.2.2.2.1 u.2.2.2.2.2.2.2.2.2.2.2.2.2.2.2.2.2.2.2.2.2.2.2.2.2.2.2.2.2.2.2.2.2.2.2.2.1 u.2.2.2.2.2.2.2.2.2.2.2.2.2.2.2.2.2.2.2.2.2.2.2.2.2.2.2.2.2.2.2.2.2.2.2.2.2 v.1 v.2.1 v.2.2.1 v.2.2.2.1 v.2.2.2.2.1 v.2.2.2.2.2.1 v.2.2.2.2.2.2.1 v.2.2.2.2.2.2.2.1 v.2.2.2.2.2.2.2.2.1 v.2.2.2.2.2.2.2.2.2.1 v.2.2.2.2.2.2.2.2.2.2.1 v.2.2.2.2.2.2.2.2.2.2.2.1 v.2.2.2.2.2.2.2.2.2.2.2.2.1 v.2.2.2.2.2.2.2.2.2.2.2.2.2.1 v.2.2.2.2.2.2.2.2.2.2.2.2.2.2.1 v.2.2.2.2.2.2.2.2.2.2.2.2.2.2.2.1 v.2.2.2.2.2.2.2.2.2.2.2.2.2.2.2.2.1 v.2.2.2.2.2.2.2.2.2.2.2.2.2.2.2.2.2.1 v.2.2.2.2.2.2.2.2.2.2.2.2.2.2.2.2.2.2.1 v.2.2.2.2.2.2.2.2.2.2.2.2.2.2.2.2.2.2.2.1 v.2.2.2.2.2.2.2.2.2.2.2.2.2.2.2.2.2.2.2.2.1 v.2.2.2.2.2.2.2.2.2.2.2.2.2.2.2.2.2.2.2.2.2.1 v.2.2.2.2.2.2.2.2.2.2.2.2.2.2.2.2.2.2.2.2.2.2
theorem fr_t {k : Nat} {j : Nat} (hj : j ≤ 5) {t : Nat} (h : t ≤ 200 * k) : t ≤ 200 * (k + j) := by omega
theorem fr_up {k : Nat} {f_begun f_opened f_waiting f_time f_completions f_dropped f_free f_state f_taken f_fault f_frameCall f_at f_level f_packEnd f_shift f_need f_entry f_number : Int32} {f_acc : Int64} {a_schema a_callId a_callState a_deadline a_callRoot a_placeOf a_wheel a_wheelEnd a_later a_sooner a_done a_next a_first a_last a_fieldOf : Nat → Int32} {a_val : Nat → Int64} {a_endAt a_typeOf a_cellOf : Nat → Int32} {g_begun g_opened : Int32} {g_now : Int64} {g_endings g_lost g_got g_taken g_fault g_at g_there g_source : Int32} {g_varint : Int64} {g_found : Int32} {b_kinds b_extras b_state : Nat → Int32} {b_due : Nat → Int64} {b_placeOf b_used b_bodies b_sizes b_ended b_frame : Nat → Int32} (h : fr_R k f_begun f_opened f_waiting f_time f_completions f_dropped f_free f_state f_taken f_fault f_frameCall f_at f_level f_packEnd f_shift f_need f_entry f_number f_acc a_schema a_callId a_callState a_deadline a_callRoot a_placeOf a_wheel a_wheelEnd a_later a_sooner a_done a_next a_first a_last a_fieldOf a_val a_endAt a_typeOf a_cellOf g_begun g_opened g_now g_endings g_lost g_got g_taken g_fault g_at g_there g_source g_varint g_found b_kinds b_extras b_state b_due b_placeOf b_used b_bodies b_sizes b_ended b_frame) : fr_R (k + 5) f_begun f_opened f_waiting f_time f_completions f_dropped f_free f_state f_taken f_fault f_frameCall f_at f_level f_packEnd f_shift f_need f_entry f_number f_acc a_schema a_callId a_callState a_deadline a_callRoot a_placeOf a_wheel a_wheelEnd a_later a_sooner a_done a_next a_first a_last a_fieldOf a_val a_endAt a_typeOf a_cellOf g_begun g_opened g_now g_endings g_lost g_got g_taken g_fault g_at g_there g_source g_varint g_found b_kinds b_extras b_state b_due b_placeOf b_used b_bodies b_sizes b_ended b_frame := by
  obtain ⟨o, t, cp, sch, cid, stt, dl, WL, kd, Fl, PL, rt, CC, h1, h2, h3⟩ := h
  exact ⟨o, t, cp, sch, cid, stt, dl, WL, kd, Fl, PL, rt, CC, h1, by omega, h3⟩
theorem i_up {k : Nat} {u : SX} {v : SY} (h : i_Rel k u v) : i_Rel (k + 5) u v := by
  unfold i_Rel at h ⊢
  exact fr_up h
end
section
/-! the owed statements that only read -/
section
variable {f_begun f_opened f_waiting f_time f_completions f_dropped f_free f_state f_taken f_fault f_frameCall f_at f_level f_packEnd f_shift f_need f_entry f_number : Int32} {f_acc : Int64} {a_schema a_callId a_callState a_deadline a_callRoot a_placeOf a_wheel a_wheelEnd a_later a_sooner a_done a_next a_first a_last a_fieldOf : Nat → Int32} {a_val : Nat → Int64} {a_endAt a_typeOf a_cellOf : Nat → Int32} {g_begun : Int32} {g_now : Int64} {g_endings g_lost g_got g_taken g_fault g_at g_there g_source : Int32} {g_varint : Int64} {g_found : Int32} {b_kinds b_extras b_state : Nat → Int32} {b_due : Nat → Int64} {b_placeOf b_used b_bodies b_sizes b_ended b_frame : Nat → Int32} {o : Nat} {cid : Nat → Option Nat} {stt dl : Nat → Nat}
theorem fr_fs (hC : fc_RC o cid stt dl a_callId a_callState a_deadline a_placeOf b_state b_due b_placeOf b_used) (x : Int32) :
    ((∀ R : Int32 → Prop, R (-1) → wpX_find R (f_begun, nI o, f_waiting, f_time, f_completions, f_dropped, f_free, f_state, f_taken, f_fault, f_frameCall, f_at, f_level, f_packEnd, f_shift, f_need, f_entry, f_number, f_acc, a_schema, a_callId, a_callState, a_deadline, a_callRoot, a_placeOf, a_wheel, a_wheelEnd, a_later, a_sooner, a_done, a_next, a_first, a_last, a_fieldOf, a_val, a_endAt, a_typeOf, a_cellOf) x) ∧ (∀ R : Int32 → Prop, R 0 → wpY_status R (g_begun, nI o, g_now, g_endings, g_lost, g_got, g_taken, g_fault, g_at, g_there, g_source, g_varint, g_found, b_kinds, b_extras, b_state, b_due, b_placeOf, b_used, b_bodies, b_sizes, b_ended, b_frame) x) ∧ ((x < 0 ∨ nI o ≤ x) ∨ ∃ i, i < o ∧ x = nI i ∧ b_state i = 0)) ∨
    (∃ p i, p < 6 ∧ cid p = some i ∧ i < o ∧ x = nI i ∧ (∀ R : Int32 → Prop, R (nI p) → wpX_find R (f_begun, nI o, f_waiting, f_time, f_completions, f_dropped, f_free, f_state, f_taken, f_fault, f_frameCall, f_at, f_level, f_packEnd, f_shift, f_need, f_entry, f_number, f_acc, a_schema, a_callId, a_callState, a_deadline, a_callRoot, a_placeOf, a_wheel, a_wheelEnd, a_later, a_sooner, a_done, a_next, a_first, a_last, a_fieldOf, a_val, a_endAt, a_typeOf, a_cellOf) x) ∧ (∀ R : Int32 → Prop, R (nI (stt p)) → wpY_status R (g_begun, nI o, g_now, g_endings, g_lost, g_got, g_taken, g_fault, g_at, g_there, g_source, g_varint, g_found, b_kinds, b_extras, b_state, b_due, b_placeOf, b_used, b_bodies, b_sizes, b_ended, b_frame) x)) := by
  have ho := hC.1
  by_cases h0 : x < 0 ∨ nI o ≤ x
  · refine Or.inl ⟨fun R hR => fc_find ho (fun _ => hR) (fun i hi hx => ?_), fun R hR => fc_sta ho (fun _ => hR) (fun i hi hx => ?_), Or.inl h0⟩
    · exfalso
      rw [hx] at h0
      rcases h0 with h0 | h0
      · exact nI_pos (by omega) h0
      · exact nI_ge hi (by omega) h0
    · exfalso
      rw [hx] at h0
      rcases h0 with h0 | h0
      · exact nI_pos (by omega) h0
      · exact nI_ge hi (by omega) h0
  · obtain ⟨i, hi, rfl⟩ := nI_of (x := x) (fun z => h0 (Or.inl z))
    have hio : i < o := by
      have h1 : ¬ nI o ≤ nI i := fun z => h0 (Or.inr z)
      have := mt (nI_leI (by omega) hi).mpr h1
      omega
    rcases hC.2.2.2 i hio with ⟨p, hp, hc⟩ | ⟨h1, h2⟩
    · obtain ⟨a1, a2, a3, a4, a5, a6, a7, a8, a9, a10, a11, a12⟩ := hC.2.2.1 p i hp hc
      refine Or.inr ⟨p, i, hp, hc, hio, rfl, fun R hR => fc_find ho (fun z => absurd z h0) (fun i' hi' hx => ?_), fun R hR => fc_sta ho (fun z => absurd z h0) (fun i' hi' hx => ?_)⟩
      · have e := (nI_eq (by omega) (by omega)).mp hx
        subst e
        rw [a9]; exact hR
      · have e := (nI_eq (by omega) (by omega)).mp hx
        subst e
        rw [a11]; exact hR
    · refine Or.inl ⟨fun R hR => fc_find ho (fun z => absurd z h0) (fun i' hi' hx => ?_), fun R hR => fc_sta ho (fun z => absurd z h0) (fun i' hi' hx => ?_), Or.inr ⟨i, hio, rfl, h2⟩⟩
      · have e := (nI_eq (by omega) (by omega)).mp hx
        subst e
        rw [h1]; exact hR
      · have e := (nI_eq (by omega) (by omega)).mp hx
        subst e
        rw [h2]; exact hR
end
theorem i_vc_fault {k : Nat} {u : SX} {v : SY} (I : i_Rel k u v) (hk : k + 5 ≤ 2560) : wpX_fault (fun r => wpY_fault (fun r' => r' = r ∧ i_Rel (k + 5) u v) v) u := by
  revert I
  refine fr_el (P := fun u v => i_Rel k u v → wpX_fault (fun r => wpY_fault (fun r' => r' = r ∧ i_Rel (k + 5) u v) v) u) ?_ u v
  intro f_begun f_opened f_waiting f_time f_completions f_dropped f_free f_state f_taken f_fault f_frameCall f_at f_level f_packEnd f_shift f_need f_entry f_number f_acc a_schema a_callId a_callState a_deadline a_callRoot a_placeOf a_wheel a_wheelEnd a_later a_sooner a_done a_next a_first a_last a_fieldOf a_val a_endAt a_typeOf a_cellOf g_begun g_opened g_now g_endings g_lost g_got g_taken g_fault g_at g_there g_source g_varint g_found b_kinds b_extras b_state b_due b_placeOf b_used b_bodies b_sizes b_ended b_frame I
  have I2 : fr_R k f_begun f_opened f_waiting f_time f_completions f_dropped f_free f_state f_taken f_fault f_frameCall f_at f_level f_packEnd f_shift f_need f_entry f_number f_acc a_schema a_callId a_callState a_deadline a_callRoot a_placeOf a_wheel a_wheelEnd a_later a_sooner a_done a_next a_first a_last a_fieldOf a_val a_endAt a_typeOf a_cellOf g_begun g_opened g_now g_endings g_lost g_got g_taken g_fault g_at g_there g_source g_varint g_found b_kinds b_extras b_state b_due b_placeOf b_used b_bodies b_sizes b_ended b_frame := I
  obtain ⟨o, t, cp, sch, cid, stt, dl, WL, kd, Fl, PL, rt, CC, ⟨e1, e2, e3, e4, e5, e6, e7, e8, e9, e10, e11⟩, _⟩ := I2
  exact ⟨e10, i_up I⟩
theorem i_vc_dropped {k : Nat} {u : SX} {v : SY} (I : i_Rel k u v) (hk : k + 5 ≤ 2560) : wpX_dropped (fun r => wpY_dropped (fun r' => r' = r ∧ i_Rel (k + 5) u v) v) u := by
  revert I
  refine fr_el (P := fun u v => i_Rel k u v → wpX_dropped (fun r => wpY_dropped (fun r' => r' = r ∧ i_Rel (k + 5) u v) v) u) ?_ u v
  intro f_begun f_opened f_waiting f_time f_completions f_dropped f_free f_state f_taken f_fault f_frameCall f_at f_level f_packEnd f_shift f_need f_entry f_number f_acc a_schema a_callId a_callState a_deadline a_callRoot a_placeOf a_wheel a_wheelEnd a_later a_sooner a_done a_next a_first a_last a_fieldOf a_val a_endAt a_typeOf a_cellOf g_begun g_opened g_now g_endings g_lost g_got g_taken g_fault g_at g_there g_source g_varint g_found b_kinds b_extras b_state b_due b_placeOf b_used b_bodies b_sizes b_ended b_frame I
  have I2 : fr_R k f_begun f_opened f_waiting f_time f_completions f_dropped f_free f_state f_taken f_fault f_frameCall f_at f_level f_packEnd f_shift f_need f_entry f_number f_acc a_schema a_callId a_callState a_deadline a_callRoot a_placeOf a_wheel a_wheelEnd a_later a_sooner a_done a_next a_first a_last a_fieldOf a_val a_endAt a_typeOf a_cellOf g_begun g_opened g_now g_endings g_lost g_got g_taken g_fault g_at g_there g_source g_varint g_found b_kinds b_extras b_state b_due b_placeOf b_used b_bodies b_sizes b_ended b_frame := I
  obtain ⟨o, t, cp, sch, cid, stt, dl, WL, kd, Fl, PL, rt, CC, ⟨e1, e2, e3, e4, e5, e6, e7, e8, e9, e10, e11⟩, _⟩ := I2
  exact ⟨e9, i_up I⟩
theorem i_vc_faultAt {k : Nat} {u : SX} {v : SY} (I : i_Rel k u v) (hk : k + 5 ≤ 2560) : wpX_faultAt (fun r => wpY_faultAt (fun r' => r' = r ∧ i_Rel (k + 5) u v) v) u := by
  revert I
  refine fr_el (P := fun u v => i_Rel k u v → wpX_faultAt (fun r => wpY_faultAt (fun r' => r' = r ∧ i_Rel (k + 5) u v) v) u) ?_ u v
  intro f_begun f_opened f_waiting f_time f_completions f_dropped f_free f_state f_taken f_fault f_frameCall f_at f_level f_packEnd f_shift f_need f_entry f_number f_acc a_schema a_callId a_callState a_deadline a_callRoot a_placeOf a_wheel a_wheelEnd a_later a_sooner a_done a_next a_first a_last a_fieldOf a_val a_endAt a_typeOf a_cellOf g_begun g_opened g_now g_endings g_lost g_got g_taken g_fault g_at g_there g_source g_varint g_found b_kinds b_extras b_state b_due b_placeOf b_used b_bodies b_sizes b_ended b_frame I
  have I2 : fr_R k f_begun f_opened f_waiting f_time f_completions f_dropped f_free f_state f_taken f_fault f_frameCall f_at f_level f_packEnd f_shift f_need f_entry f_number f_acc a_schema a_callId a_callState a_deadline a_callRoot a_placeOf a_wheel a_wheelEnd a_later a_sooner a_done a_next a_first a_last a_fieldOf a_val a_endAt a_typeOf a_cellOf g_begun g_opened g_now g_endings g_lost g_got g_taken g_fault g_at g_there g_source g_varint g_found b_kinds b_extras b_state b_due b_placeOf b_used b_bodies b_sizes b_ended b_frame := I
  obtain ⟨o, t, cp, sch, cid, stt, dl, WL, kd, Fl, PL, rt, CC, ⟨e1, e2, e3, e4, e5, e6, e7, e8, e9, e10, e11⟩, _, _, ht, _⟩ := I2
  refine br_c (fun h => br_t (e10.trans h) ⟨rfl, i_up I⟩) (fun h => br_f (fun z => h (e10.symm.trans z)) ⟨?_, i_up I⟩)
  rw [ht, if_neg h, Int32.add_sub_cancel]
theorem i_vc_completed {k : Nat} {u : SX} {v : SY} (I : i_Rel k u v) (hk : k + 5 ≤ 2560) (v1 : Int32) : wpX_completed (fun r => wpY_completed (fun r' => r' = r ∧ i_Rel (k + 5) u v) v v1) u v1 := by
  revert I
  refine fr_el (P := fun u v => i_Rel k u v → wpX_completed (fun r => wpY_completed (fun r' => r' = r ∧ i_Rel (k + 5) u v) v v1) u v1) ?_ u v
  intro f_begun f_opened f_waiting f_time f_completions f_dropped f_free f_state f_taken f_fault f_frameCall f_at f_level f_packEnd f_shift f_need f_entry f_number f_acc a_schema a_callId a_callState a_deadline a_callRoot a_placeOf a_wheel a_wheelEnd a_later a_sooner a_done a_next a_first a_last a_fieldOf a_val a_endAt a_typeOf a_cellOf g_begun g_opened g_now g_endings g_lost g_got g_taken g_fault g_at g_there g_source g_varint g_found b_kinds b_extras b_state b_due b_placeOf b_used b_bodies b_sizes b_ended b_frame I
  have I2 : fr_R k f_begun f_opened f_waiting f_time f_completions f_dropped f_free f_state f_taken f_fault f_frameCall f_at f_level f_packEnd f_shift f_need f_entry f_number f_acc a_schema a_callId a_callState a_deadline a_callRoot a_placeOf a_wheel a_wheelEnd a_later a_sooner a_done a_next a_first a_last a_fieldOf a_val a_endAt a_typeOf a_cellOf g_begun g_opened g_now g_endings g_lost g_got g_taken g_fault g_at g_there g_source g_varint g_found b_kinds b_extras b_state b_due b_placeOf b_used b_bodies b_sizes b_ended b_frame := I
  obtain ⟨o, t, cp, sch, cid, stt, dl, WL, kd, Fl, PL, rt, CC, ⟨e1, e2, e3, e4, e5, e6, e7, e8, e9, e10, e11⟩, _⟩ := I2
  have J := i_up I
  clear I
  subst e7 e8 e11
  have hin : vp_in (((nI cp - 1) - v1) &&& 31) 32 := pk_andIn _ 5 (by decide) (by decide)
  exact br_c (fun h => br_t h ⟨rfl, J⟩) (fun h => br_c (fun h2 => br_f h (br_t h2 ⟨rfl, J⟩)) (fun h2 => br_c (fun h3 => And.intro hin (br_f h (br_f h2 (br_t h3 (And.intro hin ⟨rfl, J⟩))))) (fun h3 => br_f h (br_f h2 (br_f h3 ⟨rfl, J⟩)))))
theorem i_vc_status {k : Nat} {u : SX} {v : SY} (I : i_Rel k u v) (hk : k + 5 ≤ 2560) (v1 : Int32) : wpX_status (fun r => wpY_status (fun r' => r' = r ∧ i_Rel (k + 5) u v) v v1) u v1 := by
  revert I
  refine fr_el (P := fun u v => i_Rel k u v → wpX_status (fun r => wpY_status (fun r' => r' = r ∧ i_Rel (k + 5) u v) v v1) u v1) ?_ u v
  intro f_begun f_opened f_waiting f_time f_completions f_dropped f_free f_state f_taken f_fault f_frameCall f_at f_level f_packEnd f_shift f_need f_entry f_number f_acc a_schema a_callId a_callState a_deadline a_callRoot a_placeOf a_wheel a_wheelEnd a_later a_sooner a_done a_next a_first a_last a_fieldOf a_val a_endAt a_typeOf a_cellOf g_begun g_opened g_now g_endings g_lost g_got g_taken g_fault g_at g_there g_source g_varint g_found b_kinds b_extras b_state b_due b_placeOf b_used b_bodies b_sizes b_ended b_frame I
  have I2 : fr_R k f_begun f_opened f_waiting f_time f_completions f_dropped f_free f_state f_taken f_fault f_frameCall f_at f_level f_packEnd f_shift f_need f_entry f_number f_acc a_schema a_callId a_callState a_deadline a_callRoot a_placeOf a_wheel a_wheelEnd a_later a_sooner a_done a_next a_first a_last a_fieldOf a_val a_endAt a_typeOf a_cellOf g_begun g_opened g_now g_endings g_lost g_got g_taken g_fault g_at g_there g_source g_varint g_found b_kinds b_extras b_state b_due b_placeOf b_used b_bodies b_sizes b_ended b_frame := I
  obtain ⟨o, t, cp, sch, cid, stt, dl, WL, kd, Fl, PL, rt, CC, ⟨e1, e2, e3, e4, e5, e6, e7, e8, e9, e10, e11⟩, _, _, _, _, _, _, hC, _⟩ := I2
  have J := i_up I
  clear I
  subst e2 e3
  unfold wpX_status
  rcases fr_fs hC v1 with ⟨fx, fy, _⟩ | ⟨p, i, hp, hc, hi, rfl, fx, fy⟩
  · exact fx _ (br_f (by decide) (fy _ ⟨rfl, J⟩))
  · obtain ⟨a1, a2, a3, a4, a5, a6, a7, a8, a9, a10, a11, a12⟩ := hC.2.2.1 p i hp hc
    refine fx _ ?_
    refine br_t (nI_pos' (by omega)) (And.intro (vp_in_nI hp (by decide)) ?_)
    rw [nI_clamp (by omega), a6]
    exact fy _ ⟨rfl, J⟩
theorem i_vc_reconnect {k : Nat} {u : SX} {v : SY} (I : i_Rel k u v) (hk : k + 5 ≤ 2560) : wpX_reconnect (fun r u' => wpY_reconnect (fun r' v' => r' = r ∧ i_Rel (k + 5) u' v') v) u := by
  revert I
  refine fr_el (P := fun u v => i_Rel k u v → wpX_reconnect (fun r u' => wpY_reconnect (fun r' v' => r' = r ∧ i_Rel (k + 5) u' v') v) u) ?_ u v
  intro f_begun f_opened f_waiting f_time f_completions f_dropped f_free f_state f_taken f_fault f_frameCall f_at f_level f_packEnd f_shift f_need f_entry f_number f_acc a_schema a_callId a_callState a_deadline a_callRoot a_placeOf a_wheel a_wheelEnd a_later a_sooner a_done a_next a_first a_last a_fieldOf a_val a_endAt a_typeOf a_cellOf g_begun g_opened g_now g_endings g_lost g_got g_taken g_fault g_at g_there g_source g_varint g_found b_kinds b_extras b_state b_due b_placeOf b_used b_bodies b_sizes b_ended b_frame I
  have I2 : fr_R k f_begun f_opened f_waiting f_time f_completions f_dropped f_free f_state f_taken f_fault f_frameCall f_at f_level f_packEnd f_shift f_need f_entry f_number f_acc a_schema a_callId a_callState a_deadline a_callRoot a_placeOf a_wheel a_wheelEnd a_later a_sooner a_done a_next a_first a_last a_fieldOf a_val a_endAt a_typeOf a_cellOf g_begun g_opened g_now g_endings g_lost g_got g_taken g_fault g_at g_there g_source g_varint g_found b_kinds b_extras b_state b_due b_placeOf b_used b_bodies b_sizes b_ended b_frame := I
  obtain ⟨o, t, cp, sch, cid, stt, dl, WL, kd, Fl, PL, rt, CC, ⟨e1, e2, e3, e4, e5, e6, e7, e8, e9, e10, e11⟩, h2, h3, h4, h5, h6, h7, h8, h9, h10, h11, h12, h13, h14, h15⟩ := I2
  refine br_c (fun h => br_t (e10.trans h) ⟨rfl, i_up I⟩) (fun h => br_f (fun z => h (e10.symm.trans z)) ⟨rfl, ?_⟩)
  show fr_R (k + 5) f_begun f_opened f_waiting f_time f_completions f_dropped f_free 0 0 0 f_frameCall f_at f_level f_packEnd f_shift f_need f_entry f_number f_acc a_schema a_callId a_callState a_deadline a_callRoot a_placeOf a_wheel a_wheelEnd a_later a_sooner a_done a_next a_first a_last a_fieldOf a_val a_endAt a_typeOf a_cellOf g_begun g_opened g_now g_endings g_lost 0 0 0 g_at g_there g_source g_varint g_found b_kinds b_extras b_state b_due b_placeOf b_used b_bodies b_sizes b_ended b_frame
  exact ⟨o, t, cp, sch, cid, stt, dl, WL, kd, Fl, PL, rt, CC, ⟨e1, e2, e3, e4, e5, e6, e7, e8, e9, rfl, e11⟩, by omega, h3, rfl, h5, h6, h7, h8, h9, h10, h11, h12, ⟨fun z => absurd rfl z, fun _ => Or.inl ⟨rfl, rfl, h13.1 h⟩⟩, h14, fun hb => ⟨(h15 hb).1, rfl, rfl⟩⟩
end
section
/-! count and value -/
theorem fr_ask {k : Nat} {f_begun f_opened f_waiting f_time f_completions f_dropped f_free f_state f_taken f_fault f_frameCall f_at f_level f_packEnd f_shift f_need f_entry f_number : Int32} {f_acc : Int64} {a_schema a_callId a_callState a_deadline a_callRoot a_placeOf a_wheel a_wheelEnd a_later a_sooner a_done a_next a_first a_last a_fieldOf : Nat → Int32} {a_val : Nat → Int64} {a_endAt a_typeOf a_cellOf : Nat → Int32} {g_begun g_opened : Int32} {g_now : Int64} {g_endings g_lost g_got g_taken g_fault g_at g_there g_source : Int32} {g_varint : Int64} {g_found : Int32} {b_kinds b_extras b_state : Nat → Int32} {b_due : Nat → Int64} {b_placeOf b_used b_bodies b_sizes b_ended b_frame : Nat → Int32} (I : fr_R k f_begun f_opened f_waiting f_time f_completions f_dropped f_free f_state f_taken f_fault f_frameCall f_at f_level f_packEnd f_shift f_need f_entry f_number f_acc a_schema a_callId a_callState a_deadline a_callRoot a_placeOf a_wheel a_wheelEnd a_later a_sooner a_done a_next a_first a_last a_fieldOf a_val a_endAt a_typeOf a_cellOf g_begun g_opened g_now g_endings g_lost g_got g_taken g_fault g_at g_there g_source g_varint g_found b_kinds b_extras b_state b_due b_placeOf b_used b_bodies b_sizes b_ended b_frame) (v1 v2 v3 : Int32) :
    ∃ F : List (Nat × Int64), F.length < 2 ^ 31 ∧
      (∀ R : Int32 → Prop, (∀ l, fh_Ch a_next l → (∀ x, x ∈ l → x < 427) → fq_g a_fieldOf a_val v3 l = F.map Prod.snd → R (fa_hd (fh_sk a_fieldOf v3 l))) → wpX_firstCell R (f_begun, f_opened, f_waiting, f_time, f_completions, f_dropped, f_free, f_state, f_taken, f_fault, f_frameCall, f_at, f_level, f_packEnd, f_shift, f_need, f_entry, f_number, f_acc, a_schema, a_callId, a_callState, a_deadline, a_callRoot, a_placeOf, a_wheel, a_wheelEnd, a_later, a_sooner, a_done, a_next, a_first, a_last, a_fieldOf, a_val, a_endAt, a_typeOf, a_cellOf) v1 v2 v3) ∧
      (∀ (postY : Int32 → SY → Prop) (kk : Int32), (∀ at' there src vr, (0 ≤ kk → kk < nI F.length → vr = fl_v kk F) → postY (nI F.length) (g_begun, g_opened, g_now, g_endings, g_lost, g_got, g_taken, g_fault, at', there, src, vr, g_found, b_kinds, b_extras, b_state, b_due, b_placeOf, b_used, b_bodies, b_sizes, b_ended, b_frame)) → wpY_look postY (g_begun, g_opened, g_now, g_endings, g_lost, g_got, g_taken, g_fault, g_at, g_there, g_source, g_varint, g_found, b_kinds, b_extras, b_state, b_due, b_placeOf, b_used, b_bodies, b_sizes, b_ended, b_frame) v1 v2 v3 kk) := by
  obtain ⟨o, t, cp, sch, cid, stt, dl, WL, kd, Fl, PL, rt, CC, ⟨e1, e2, e3, e4, e5, e6, e7, e8, e9, e10, e11⟩, h2, h3, h4, h5, h6, h7, hC, h9, h10, h11, h12, h13, h14, h15⟩ := I
  subst e2 e3
  have ho := hC.1
  have nil : ∀ R : Int32 → Prop, (∀ l, fh_Ch a_next l → (∀ x, x ∈ l → x < 427) → fq_g a_fieldOf a_val v3 l = ([] : List (Nat × Int64)).map Prod.snd → R (fa_hd (fh_sk a_fieldOf v3 l))) → R (-1) := fun R K => K [] trivial (fun _ hx => nomatch hx) rfl
  have ynil : ∀ (postY : Int32 → SY → Prop) (kk : Int32), (∀ at' there src vr, (0 ≤ kk → kk < nI ([] : List (Nat × Int64)).length → vr = fl_v kk []) → postY (nI ([] : List (Nat × Int64)).length) (g_begun, nI o, g_now, g_endings, g_lost, g_got, g_taken, g_fault, at', there, src, vr, g_found, b_kinds, b_extras, b_state, b_due, b_placeOf, b_used, b_bodies, b_sizes, b_ended, b_frame)) → postY 0 (g_begun, nI o, g_now, g_endings, g_lost, g_got, g_taken, g_fault, g_at, g_there, g_source, g_varint, g_found, b_kinds, b_extras, b_state, b_due, b_placeOf, b_used, b_bodies, b_sizes, b_ended, b_frame) := fun postY kk K => K g_at g_there g_source g_varint (fun a b => absurd b (Int32.not_lt.mpr a))
  unfold wpX_firstCell
  rcases fr_fs (f_begun := f_begun) (f_waiting := f_waiting) (f_time := f_time) (f_completions := f_completions) (f_dropped := f_dropped) (f_free := f_free) (f_state := f_state) (f_taken := f_taken) (f_fault := f_fault) (f_frameCall := f_frameCall) (f_at := f_at) (f_level := f_level) (f_packEnd := f_packEnd) (f_shift := f_shift) (f_need := f_need) (f_entry := f_entry) (f_number := f_number) (f_acc := f_acc) (a_schema := a_schema) (a_callRoot := a_callRoot) (a_wheel := a_wheel) (a_wheelEnd := a_wheelEnd) (a_later := a_later) (a_sooner := a_sooner) (a_done := a_done) (a_next := a_next) (a_first := a_first) (a_last := a_last) (a_fieldOf := a_fieldOf) (a_val := a_val) (a_endAt := a_endAt) (a_typeOf := a_typeOf) (a_cellOf := a_cellOf) (g_begun := g_begun) (g_now := g_now) (g_endings := g_endings) (g_lost := g_lost) (g_got := g_got) (g_taken := g_taken) (g_fault := g_fault) (g_at := g_at) (g_there := g_there) (g_source := g_source) (g_varint := g_varint) (g_found := g_found) (b_kinds := b_kinds) (b_extras := b_extras) (b_bodies := b_bodies) (b_sizes := b_sizes) (b_ended := b_ended) (b_frame := b_frame) hC v1 with ⟨fx, fy, hno⟩ | ⟨p, i, hp, hc, hi, rfl, fx, fy⟩
  · refine ⟨[], by decide, fun R K => fx _ (br_t fa_m1l (nil R K)), fun postY kk K => fl_no ho ?_ (ynil postY kk K)⟩
    rcases hno with h | ⟨i, i1, i2, i3⟩
    · exact Or.inl h
    · exact Or.inr (Or.inl ⟨i, i1, i2, by rw [i3]; decide⟩)
  · obtain ⟨a1, a2, a3, a4, a5, a6, a7, a8, a9, a10, a11, a12⟩ := hC.2.2.1 p i hp hc
    have ip : vp_in (nI p) 6 := vp_in_nI hp (by decide)
    have ec : (nI p).toNatClampNeg = p := nI_clamp (by omega)
    by_cases hst : stt p = 2
    · have hcs : a_callState p = 2 := by rw [a6, hst]; rfl
      have hys : b_state i = 2 := by rw [a11, hst]; rfl
      by_cases hv0 : v2 < 0
      · refine ⟨[], by decide, fun R K => fx _ ?_, fun postY kk K => fl_no ho (Or.inr (Or.inr (Or.inl hv0))) (ynil postY kk K)⟩
        refine br_f (nI_pos (n := p) (by omega)) (And.intro ip ?_)
        rw [ec]
        exact br_t hcs (br_t hv0 (nil R K))
      · by_cases hv255 : v2 ≤ 255
        · obtain ⟨q, hq, rfl⟩ := nI_of2 (M := 255) (n := 255) (by decide) hv0 hv255
          obtain ⟨g1, g2, B, sz, g3, g4, g5, g6⟩ := ((h12 p hp).2 i hc).2 hst
          have hWC := fb_C h5 g6
          by_cases hqv : q < 16 ∨ q % 16 ≠ 0
          · by_cases hj : ∃ j, 1 ≤ j ∧ j ≤ 15 ∧ v3 = nI j
            · obtain ⟨j, j1, j2, rfl⟩ := hj
              have hcn := fl_cnt g6 q j
              refine ⟨fb_F j (CC p q), by omega, fun R K => ?_, fun postY kk K => fl_yes ho hi hys a10 hp g4 g3 g5 h7 h5 hq hqv j1 j2 g6 K⟩
              have := fq_first (f_opened := nI o) (post := R) (num := nI j) h11 hp g1 h5 h6 hWC g2 hcs hq fx (fun z1 z2 => absurd hqv (by omega)) (fun _ l l1 l2 l3 => K l l1 l2 (fq_CT (by omega) l3 (fun p' hp' => (hWC.1 _ p' hp').2)))
              unfold wpX_firstCell at this
              exact this
            · refine ⟨[], by decide, fun R K => ?_, fun postY kk K => fl_no ho ?_ (ynil postY kk K)⟩
              · have := fq_first (f_opened := nI o) (post := R) (num := v3) h11 hp g1 h5 h6 hWC g2 hcs hq fx (fun z1 z2 => absurd hqv (by omega)) (fun _ l l1 l2 l3 => K l l1 l2 (fq_CT0 (fun j j1 j2 z => hj ⟨j, j1, j2, z⟩) l3 (fun p' hp' => hWC.1 _ p' hp')))
                unfold wpX_firstCell at this
                exact this
              · by_cases z1 : v3 < 1
                · exact Or.inr (Or.inr (Or.inr (Or.inr (Or.inr (Or.inl z1)))))
                · by_cases z2 : 15 < v3
                  · exact Or.inr (Or.inr (Or.inr (Or.inr (Or.inr (Or.inr z2)))))
                  · exfalso
                    have z0 : ¬ v3 < 0 := fun z => z1 (Int32.lt_trans z (by decide))
                    obtain ⟨j, hj2, rfl⟩ := nI_of2 (M := 15) (n := 15) (by decide) z0 (Int32.not_lt.mp z2)
                    have hj1 : ¬ j < 1 := fun z => z1 (nI_lt (b := 1) z (by decide))
                    exact hj ⟨j, by omega, hj2, rfl⟩
          · refine ⟨[], by decide, fun R K => ?_, fun postY kk K => fl_no ho (Or.inr (Or.inr (Or.inr (Or.inr (Or.inl ⟨q, by omega, hq, rfl, by omega⟩))))) (ynil postY kk K)⟩
            have := fq_first (f_opened := nI o) (post := R) (num := v3) h11 hp g1 h5 h6 hWC g2 hcs hq fx (fun _ _ => nil R K) (fun z => absurd z hqv)
            unfold wpX_firstCell at this
            exact this
        · refine ⟨[], by decide, fun R K => fx _ ?_, fun postY kk K => fl_no ho (Or.inr (Or.inr (Or.inr (Or.inl (Int32.not_le.mp hv255))))) (ynil postY kk K)⟩
          refine br_f (nI_pos (n := p) (by omega)) (And.intro ip ?_)
          rw [ec]
          exact br_t hcs (br_f hv0 (br_f hv255 (nil R K)))
    · have hn : ¬ nI (stt p) = 2 := fun z => hst ((nI_eq (b := 2) (by omega) (by decide)).mp z)
      refine ⟨[], by decide, fun R K => fx _ ?_, fun postY kk K => fl_no ho (Or.inr (Or.inl ⟨i, hi, rfl, by rw [a11]; exact hn⟩)) (ynil postY kk K)⟩
      refine br_f (nI_pos (n := p) (by omega)) (And.intro ip ?_)
      rw [ec, a6]
      exact br_f hn (nil R K)
theorem i_vc_count {k : Nat} {u : SX} {v : SY} (I : i_Rel k u v) (hk : k + 5 ≤ 2560) (v1 : Int32) (v2 : Int32) (v3 : Int32) : wpX_count (fun r => wpY_count (fun r' v' => r' = r ∧ i_Rel (k + 5) u v') v v1 v2 v3) u v1 v2 v3 := by
  revert I
  refine fr_el (P := fun u v => i_Rel k u v → wpX_count (fun r => wpY_count (fun r' v' => r' = r ∧ i_Rel (k + 5) u v') v v1 v2 v3) u v1 v2 v3) ?_ u v
  intro f_begun f_opened f_waiting f_time f_completions f_dropped f_free f_state f_taken f_fault f_frameCall f_at f_level f_packEnd f_shift f_need f_entry f_number f_acc a_schema a_callId a_callState a_deadline a_callRoot a_placeOf a_wheel a_wheelEnd a_later a_sooner a_done a_next a_first a_last a_fieldOf a_val a_endAt a_typeOf a_cellOf g_begun g_opened g_now g_endings g_lost g_got g_taken g_fault g_at g_there g_source g_varint g_found b_kinds b_extras b_state b_due b_placeOf b_used b_bodies b_sizes b_ended b_frame I
  have I2 : fr_R k f_begun f_opened f_waiting f_time f_completions f_dropped f_free f_state f_taken f_fault f_frameCall f_at f_level f_packEnd f_shift f_need f_entry f_number f_acc a_schema a_callId a_callState a_deadline a_callRoot a_placeOf a_wheel a_wheelEnd a_later a_sooner a_done a_next a_first a_last a_fieldOf a_val a_endAt a_typeOf a_cellOf g_begun g_opened g_now g_endings g_lost g_got g_taken g_fault g_at g_there g_source g_varint g_found b_kinds b_extras b_state b_due b_placeOf b_used b_bodies b_sizes b_ended b_frame := I
  clear I
  obtain ⟨F, hF, hX, hY⟩ := fr_ask I2 v1 v2 v3
  unfold wpX_count
  refine hX _ (fun l l1 l2 l3 => ⟨l.length + 1, fq_cnt (l.length + 1) 0 l (Nat.lt_succ_self _) l1 l2 ?_⟩)
  rw [l3, List.length_map, Nat.zero_add]
  unfold wpY_count
  exact hY _ 0 (fun at' there src vr _ => ⟨rfl, fr_up I2⟩)
theorem i_vc_value {k : Nat} {u : SX} {v : SY} (I : i_Rel k u v) (hk : k + 5 ≤ 2560) (v1 : Int32) (v2 : Int32) (v3 : Int32) (v4 : Int32) : wpX_value (fun r => wpY_value (fun r' v' => r' = r ∧ i_Rel (k + 5) u v') v v1 v2 v3 v4) u v1 v2 v3 v4 := by
  revert I
  refine fr_el (P := fun u v => i_Rel k u v → wpX_value (fun r => wpY_value (fun r' v' => r' = r ∧ i_Rel (k + 5) u v') v v1 v2 v3 v4) u v1 v2 v3 v4) ?_ u v
  intro f_begun f_opened f_waiting f_time f_completions f_dropped f_free f_state f_taken f_fault f_frameCall f_at f_level f_packEnd f_shift f_need f_entry f_number f_acc a_schema a_callId a_callState a_deadline a_callRoot a_placeOf a_wheel a_wheelEnd a_later a_sooner a_done a_next a_first a_last a_fieldOf a_val a_endAt a_typeOf a_cellOf g_begun g_opened g_now g_endings g_lost g_got g_taken g_fault g_at g_there g_source g_varint g_found b_kinds b_extras b_state b_due b_placeOf b_used b_bodies b_sizes b_ended b_frame I
  have I2 : fr_R k f_begun f_opened f_waiting f_time f_completions f_dropped f_free f_state f_taken f_fault f_frameCall f_at f_level f_packEnd f_shift f_need f_entry f_number f_acc a_schema a_callId a_callState a_deadline a_callRoot a_placeOf a_wheel a_wheelEnd a_later a_sooner a_done a_next a_first a_last a_fieldOf a_val a_endAt a_typeOf a_cellOf g_begun g_opened g_now g_endings g_lost g_got g_taken g_fault g_at g_there g_source g_varint g_found b_kinds b_extras b_state b_due b_placeOf b_used b_bodies b_sizes b_ended b_frame := I
  clear I
  obtain ⟨F, hF, hX, hY⟩ := fr_ask I2 v1 v2 v3
  have yy : ∀ r : Int64, r = fl_v v4 F → wpY_value (fun r' v' => r' = r ∧ i_Rel (k + 5) (f_begun, f_opened, f_waiting, f_time, f_completions, f_dropped, f_free, f_state, f_taken, f_fault, f_frameCall, f_at, f_level, f_packEnd, f_shift, f_need, f_entry, f_number, f_acc, a_schema, a_callId, a_callState, a_deadline, a_callRoot, a_placeOf, a_wheel, a_wheelEnd, a_later, a_sooner, a_done, a_next, a_first, a_last, a_fieldOf, a_val, a_endAt, a_typeOf, a_cellOf) v') (g_begun, g_opened, g_now, g_endings, g_lost, g_got, g_taken, g_fault, g_at, g_there, g_source, g_varint, g_found, b_kinds, b_extras, b_state, b_due, b_placeOf, b_used, b_bodies, b_sizes, b_ended, b_frame) v1 v2 v3 v4 := by
    intro r hr
    unfold wpY_value
    refine hY _ v4 (fun at' there src vr hvr => ?_)
    refine br_c (fun h => ⟨?_, fr_up I2⟩) (fun h => br_c (fun h0 => ⟨?_, fr_up I2⟩) (fun h0 => ⟨?_, fr_up I2⟩))
    · rw [hr]
      unfold fl_v
      by_cases h0 : v4 < 0
      · rw [if_pos h0]
      · obtain ⟨m, hm, rfl⟩ := nI_of h0
        have hle := (nI_leI hF hm).mp h
        rw [if_neg h0, nI_clamp hm, List.getElem?_eq_none hle]
        rfl
    · rw [hr]
      unfold fl_v
      rw [if_pos h0]
    · rw [hr]
      exact hvr (Int32.not_lt.mp h0) (Int32.not_le.mp h)
  unfold wpX_value
  refine hX _ (fun l l1 l2 l3 => ?_)
  by_cases h0 : v4 < 0
  · refine ⟨1, fq_valN h0 _ (yy 0 ?_)⟩
    unfold fl_v
    rw [if_pos h0]
  · obtain ⟨m, hm, rfl⟩ := nI_of h0
    refine ⟨l.length + 1, fq_val hm (l.length + 1) 0 l (Nat.lt_succ_self _) (Nat.zero_le _) l1 l2 (yy _ ?_)⟩
    unfold fl_v
    rw [if_neg h0, nI_clamp hm, l3, List.getElem?_map, Nat.sub_zero]
end
section
/-! cancel, release, field -/
section
variable {o : Nat} {cid : Nat → Option Nat} {stt dl : Nat → Nat} {WL : Nat → List Nat} {ci cs de xp ys : Nat → Int32} {yd : Nat → Int64} {yp yu wh we la so : Nat → Int32}
theorem fc_RCrel (h : fc_RC o cid stt dl ci cs de xp ys yd yp yu) {p i : Nat} (hp : p < 6) (hi : cid p = some i) : fc_RC o (fc_u cid p none) stt dl (upd ci p (-1)) cs de (upd xp i (-1)) (upd ys i 0) yd yp (upd yu p 0) := by
  refine ⟨h.1, fun q hq hc => ?_, fun q j hq hj => ?_, fun j hj => ?_⟩
  · by_cases e : q = p
    · subst e; exact ⟨pk_us, pk_us⟩
    · rw [fc_un e] at hc
      rw [pk_un e, pk_un e]; exact h.2.1 q hq hc
  · have e : q ≠ p := fun z => by subst z; rw [fc_us] at hj; cases hj
    rw [fc_un e] at hj
    have e2 : j ≠ i := fun z => e (fc_inj h hq hp (z ▸ hj) hi)
    rw [pk_un e, pk_un e, pk_un e2, pk_un e2]
    exact h.2.2.1 q j hq hj
  · by_cases e : j = i
    · subst e; exact Or.inr ⟨pk_us, pk_us⟩
    · rw [pk_un e, pk_un e]
      rcases h.2.2.2 j hj with ⟨q, hq, hc⟩ | h0
      · refine Or.inl ⟨q, hq, ?_⟩
        rw [fc_un (fun z : q = p => by subst z; rw [hi] at hc; cases hc; exact e rfl)]
        exact hc
      · exact Or.inr h0
theorem fc_RWrel (h : fc_RW cid stt dl WL wh we la so) {p : Nat} (h1 : stt p ≠ 1) : fc_RW (fc_u cid p none) stt dl WL wh we la so := by
  have hn : ∀ w, w < 32 → p ∉ WL w := fun w hw hx => h1 ((h.2.1 w p hw).mp hx).2.2.1
  refine ⟨h.1, fun w q hw => ?_, fun w hw => ?_⟩
  · by_cases e : q = p
    · subst e
      constructor
      · intro hx; exact absurd hx (hn w hw)
      · rintro ⟨_, _, z, _⟩; exact absurd z h1
    · rw [fc_un e]; exact h.2.1 w q hw
  · refine List.Pairwise.imp_of_mem ?_ (h.2.2 w hw)
    intro a b ha hb hab
    rw [fc_un (fun z : a = p => hn w hw (z ▸ ha)), fc_un (fun z : b = p => hn w hw (z ▸ hb))]
    exact hab
theorem fc_pwrel {p : Nat} (h1 : stt p ≠ 1) : fc_pw (fc_u cid p none) stt = fc_pw cid stt := by
  unfold fc_pw
  refine fh_sumC (fun q _ => ?_)
  unfold fc_pn
  by_cases e : q = p
  · subst e
    rw [if_neg (fun z => h1 z.2), if_neg (fun z => h1 z.2)]
  · rw [fc_un e]
end
theorem fr_Plc {cid : Nat → Option Nat} {stt : Nat → Nat} {cr : Nat → Int32} {PL : Nat → List Nat} {rt : Nat → Nat} {CC : Nat → fb_Con} {bs bb : Nat → Int32} {sch : Nat → Nat} {p k : Nat} (h : fr_Pl cid stt cr PL rt CC bs bb sch) (h1 : stt p ≠ 2) (hk : k ≠ 2) : fr_Pl cid (fc_u stt p k) cr PL rt CC bs bb sch := by
  intro q hq
  refine ⟨(h q hq).1, fun i hi => ?_⟩
  have h' := (h q hq).2 i hi
  by_cases e : q = p
  · subst e
    rw [fc_us]
    exact ⟨fun _ => h'.1 h1, fun z => absurd z hk⟩
  · rw [fc_un e]; exact h'
theorem fr_FrH {sch : Nat → Nat} {fl st fc at' lv pe sh nd en nu : Int32} {ac : Int64} {ea ta ce nx fi la fo : Nat → Int32} {va : Nat → Int64} {fr : Int32} {kd : Nat → List Nat} {Fl : List Nat} {PL : Nat → List Nat} {rt : Nat → Nat} {CC : Nat → fb_Con} {got : Int32} {bf : Nat → Int32} {nx' : Nat → Int32} {fr' : Int32} {Fl' : List Nat} {PL' : Nat → List Nat}
    (h : fr_Fr sch fl st fc at' lv pe sh nd en nu ac ea ta ce nx fi la fo va fr kd Fl PL rt CC got bf) (hR : fh_HR nx' fi la fo va fr' kd Fl' PL' rt CC) (h6 : PL' 6 = PL 6) : fr_Fr sch fl st fc at' lv pe sh nd en nu ac ea ta ce nx' fi la fo va fr' kd Fl' PL' rt CC got bf := by
  unfold fr_Fr
  rw [h6]
  refine ⟨h.1, fun z => ?_⟩
  rcases h.2 z with h | h | ⟨c, B, sz, a, s, stk, pk, b1, b2, b3, b4, b5, b6, b7, b8, b9, b10, b11⟩
  · exact Or.inl h
  · exact Or.inr (Or.inl h)
  · refine Or.inr (Or.inr ⟨c, B, sz, a, s, stk, pk, b1, b2, b3, b4, b5, b6, b7, b8, b9, b10, hR, ?_, ?_, b11.2.2.2⟩)
    · rw [h6]; exact b11.2.1
    · rw [h6]; exact b11.2.2.1
theorem i_vc_cancel {k : Nat} {u : SX} {v : SY} (I : i_Rel k u v) (hk : k + 5 ≤ 2560) (v1 : Int32) : wpX_cancel (fun r u' => wpY_cancel (fun r' v' => r' = r ∧ i_Rel (k + 5) u' v') v v1) u v1 := by
  revert I
  refine fr_el (P := fun u v => i_Rel k u v → wpX_cancel (fun r u' => wpY_cancel (fun r' v' => r' = r ∧ i_Rel (k + 5) u' v') v v1) u v1) ?_ u v
  intro f_begun f_opened f_waiting f_time f_completions f_dropped f_free f_state f_taken f_fault f_frameCall f_at f_level f_packEnd f_shift f_need f_entry f_number f_acc a_schema a_callId a_callState a_deadline a_callRoot a_placeOf a_wheel a_wheelEnd a_later a_sooner a_done a_next a_first a_last a_fieldOf a_val a_endAt a_typeOf a_cellOf g_begun g_opened g_now g_endings g_lost g_got g_taken g_fault g_at g_there g_source g_varint g_found b_kinds b_extras b_state b_due b_placeOf b_used b_bodies b_sizes b_ended b_frame I
  have I2 : fr_R k f_begun f_opened f_waiting f_time f_completions f_dropped f_free f_state f_taken f_fault f_frameCall f_at f_level f_packEnd f_shift f_need f_entry f_number f_acc a_schema a_callId a_callState a_deadline a_callRoot a_placeOf a_wheel a_wheelEnd a_later a_sooner a_done a_next a_first a_last a_fieldOf a_val a_endAt a_typeOf a_cellOf g_begun g_opened g_now g_endings g_lost g_got g_taken g_fault g_at g_there g_source g_varint g_found b_kinds b_extras b_state b_due b_placeOf b_used b_bodies b_sizes b_ended b_frame := I
  clear I
  obtain ⟨o, t, cp, sch, cid, stt, dl, WL, kd, Fl, PL, rt, CC, ⟨e1, e2, e3, e4, e5, e6, e7, e8, e9, e10, e11⟩, h2, h3, h4, h5, h6, h7, hC, h9, h10, h11, h12, h13, h14, h15⟩ := I2
  subst e1 e2 e3 e4 e5 e6 e7 e8 e9 e10 e11
  have same : fr_R (k + 5) g_begun (nI o) (nI (fc_pw cid stt)) (nI t) (nI cp) g_lost f_free f_state f_taken g_fault f_frameCall f_at f_level f_packEnd f_shift f_need f_entry f_number f_acc a_schema a_callId a_callState a_deadline a_callRoot a_placeOf a_wheel a_wheelEnd a_later a_sooner b_ended a_next a_first a_last a_fieldOf a_val a_endAt a_typeOf a_cellOf g_begun (nI o) (lN t) (nI cp) g_lost g_got g_taken g_fault g_at g_there g_source g_varint g_found b_kinds b_extras b_state b_due b_placeOf b_used b_bodies b_sizes b_ended b_frame := ⟨o, t, cp, sch, cid, stt, dl, WL, kd, Fl, PL, rt, CC, ⟨rfl, rfl, rfl, rfl, rfl, rfl, rfl, rfl, rfl, rfl, rfl⟩, by omega, h3, h4, h5, h6, h7, hC, h9, h10, h11, h12, h13, h14, h15⟩
  have ho := hC.1
  unfold wpX_cancel
  rcases fr_fs (f_begun := g_begun) (f_waiting := nI (fc_pw cid stt)) (f_time := nI t) (f_completions := nI cp) (f_dropped := g_lost) (f_free := f_free) (f_state := f_state) (f_taken := f_taken) (f_fault := g_fault) (f_frameCall := f_frameCall) (f_at := f_at) (f_level := f_level) (f_packEnd := f_packEnd) (f_shift := f_shift) (f_need := f_need) (f_entry := f_entry) (f_number := f_number) (f_acc := f_acc) (a_schema := a_schema) (a_callRoot := a_callRoot) (a_wheel := a_wheel) (a_wheelEnd := a_wheelEnd) (a_later := a_later) (a_sooner := a_sooner) (a_done := b_ended) (a_next := a_next) (a_first := a_first) (a_last := a_last) (a_fieldOf := a_fieldOf) (a_val := a_val) (a_endAt := a_endAt) (a_typeOf := a_typeOf) (a_cellOf := a_cellOf) (g_begun := g_begun) (g_now := lN t) (g_endings := nI cp) (g_lost := g_lost) (g_got := g_got) (g_taken := g_taken) (g_fault := g_fault) (g_at := g_at) (g_there := g_there) (g_source := g_source) (g_varint := g_varint) (g_found := g_found) (b_kinds := b_kinds) (b_extras := b_extras) (b_bodies := b_bodies) (b_sizes := b_sizes) (b_ended := b_ended) (b_frame := b_frame) hC v1 with ⟨fx, fy, hno⟩ | ⟨p, i, hp, hc, hi, rfl, fx, fy⟩
  · refine fx _ (br_t fa_m1l ?_)
    unfold wpY_cancel
    exact fy _ (br_f (by decide) ⟨rfl, same⟩)
  · obtain ⟨a1, a2, a3, a4, a5, a6, a7, a8, a9, a10, a11, a12⟩ := hC.2.2.1 p i hp hc
    refine fx _ ?_
    refine br_f (nI_pos (n := p) (by omega)) (And.intro (vp_in_nI hp (by decide)) ?_)
    rw [nI_clamp (by omega), a6]
    refine pk_eq (stt p) 1 (fun hs => ?_) (fun hs => ?_)
    · have hpw := fc_pwend (k := 4) hp hc hs (by decide)
      have hm := (h9.2.1 (dl p % 32) p (Nat.mod_lt _ (by decide))).mpr ⟨hp, ⟨i, hc⟩, hs, rfl⟩
      obtain ⟨A, D, hAD⟩ := List.append_of_mem hm
      have hw1 : fc_pw cid stt = fc_pw cid (fc_u stt p 4) + 1 := hpw.symm
      rw [hw1]
      refine fc_comp (A := A) (D := D) (k := 4) h9 hp hc (by omega) (by decide) (by decide) a7 (by omega) a2 hAD (by omega) (fun wh' we' la' so' hR => ?_)
      unfold wpY_cancel
      refine fy _ ?_
      rw [hs]
      refine br_t rfl (fc_end (k := 4) (by omega) (by decide) (by omega) ⟨rfl, ?_⟩)
      show fr_R (k + 5) g_begun (nI o) (nI (fc_pw cid (fc_u stt p 4))) (nI t) (nI (cp + 1)) g_lost f_free f_state f_taken g_fault f_frameCall f_at f_level f_packEnd f_shift f_need f_entry f_number f_acc a_schema a_callId (upd a_callState p (nI 4)) a_deadline a_callRoot a_placeOf wh' we' la' so' (upd b_ended (cp % 32) (nI i)) a_next a_first a_last a_fieldOf a_val a_endAt a_typeOf a_cellOf g_begun (nI o) (lN t) (nI (cp + 1)) g_lost g_got g_taken g_fault g_at g_there g_source g_varint g_found b_kinds b_extras (upd b_state i (nI 4)) b_due b_placeOf b_used b_bodies b_sizes (upd b_ended (cp % 32) (nI i)) b_frame
      refine ⟨o, t, cp + 1, sch, cid, fc_u stt p 4, dl, _, kd, Fl, PL, rt, CC, ⟨rfl, rfl, rfl, rfl, rfl, rfl, rfl, rfl, rfl, rfl, rfl⟩, by omega, by omega, h4, h5, h6, h7, fc_RCend hC hp hc (by decide) (by decide), hR, fun q j hq hj hs' => ?_, h11, fr_Plc h12 (by omega) (by decide), h13, h14, h15⟩
      by_cases e : q = p
      · subst e; rw [fc_us] at hs'; exact absurd hs' (by decide)
      · rw [fc_un e] at hs'; exact h10 q j hq hj hs'
    · unfold wpY_cancel
      refine fy _ (br_f ?_ ⟨rfl, same⟩)
      intro z
      exact hs ((nI_eq (b := 1) (by omega) (by decide)).mp z)
theorem i_vc_release {k : Nat} {u : SX} {v : SY} (I : i_Rel k u v) (hk : k + 5 ≤ 2560) (v1 : Int32) : wpX_release (fun r u' => wpY_release (fun r' v' => r' = r ∧ i_Rel (k + 5) u' v') v v1) u v1 := by
  revert I
  refine fr_el (P := fun u v => i_Rel k u v → wpX_release (fun r u' => wpY_release (fun r' v' => r' = r ∧ i_Rel (k + 5) u' v') v v1) u v1) ?_ u v
  intro f_begun f_opened f_waiting f_time f_completions f_dropped f_free f_state f_taken f_fault f_frameCall f_at f_level f_packEnd f_shift f_need f_entry f_number f_acc a_schema a_callId a_callState a_deadline a_callRoot a_placeOf a_wheel a_wheelEnd a_later a_sooner a_done a_next a_first a_last a_fieldOf a_val a_endAt a_typeOf a_cellOf g_begun g_opened g_now g_endings g_lost g_got g_taken g_fault g_at g_there g_source g_varint g_found b_kinds b_extras b_state b_due b_placeOf b_used b_bodies b_sizes b_ended b_frame I
  have I2 : fr_R k f_begun f_opened f_waiting f_time f_completions f_dropped f_free f_state f_taken f_fault f_frameCall f_at f_level f_packEnd f_shift f_need f_entry f_number f_acc a_schema a_callId a_callState a_deadline a_callRoot a_placeOf a_wheel a_wheelEnd a_later a_sooner a_done a_next a_first a_last a_fieldOf a_val a_endAt a_typeOf a_cellOf g_begun g_opened g_now g_endings g_lost g_got g_taken g_fault g_at g_there g_source g_varint g_found b_kinds b_extras b_state b_due b_placeOf b_used b_bodies b_sizes b_ended b_frame := I
  clear I
  obtain ⟨o, t, cp, sch, cid, stt, dl, WL, kd, Fl, PL, rt, CC, ⟨e1, e2, e3, e4, e5, e6, e7, e8, e9, e10, e11⟩, h2, h3, h4, h5, h6, h7, hC, h9, h10, h11, h12, h13, h14, h15⟩ := I2
  subst e1 e2 e3 e4 e5 e6 e7 e8 e9 e10 e11
  have same : fr_R (k + 5) g_begun (nI o) (nI (fc_pw cid stt)) (nI t) (nI cp) g_lost f_free f_state f_taken g_fault f_frameCall f_at f_level f_packEnd f_shift f_need f_entry f_number f_acc a_schema a_callId a_callState a_deadline a_callRoot a_placeOf a_wheel a_wheelEnd a_later a_sooner b_ended a_next a_first a_last a_fieldOf a_val a_endAt a_typeOf a_cellOf g_begun (nI o) (lN t) (nI cp) g_lost g_got g_taken g_fault g_at g_there g_source g_varint g_found b_kinds b_extras b_state b_due b_placeOf b_used b_bodies b_sizes b_ended b_frame := ⟨o, t, cp, sch, cid, stt, dl, WL, kd, Fl, PL, rt, CC, ⟨rfl, rfl, rfl, rfl, rfl, rfl, rfl, rfl, rfl, rfl, rfl⟩, by omega, h3, h4, h5, h6, h7, hC, h9, h10, h11, h12, h13, h14, h15⟩
  have ho := hC.1
  unfold wpX_release
  rcases fr_fs (f_begun := g_begun) (f_waiting := nI (fc_pw cid stt)) (f_time := nI t) (f_completions := nI cp) (f_dropped := g_lost) (f_free := f_free) (f_state := f_state) (f_taken := f_taken) (f_fault := g_fault) (f_frameCall := f_frameCall) (f_at := f_at) (f_level := f_level) (f_packEnd := f_packEnd) (f_shift := f_shift) (f_need := f_need) (f_entry := f_entry) (f_number := f_number) (f_acc := f_acc) (a_schema := a_schema) (a_callRoot := a_callRoot) (a_wheel := a_wheel) (a_wheelEnd := a_wheelEnd) (a_later := a_later) (a_sooner := a_sooner) (a_done := b_ended) (a_next := a_next) (a_first := a_first) (a_last := a_last) (a_fieldOf := a_fieldOf) (a_val := a_val) (a_endAt := a_endAt) (a_typeOf := a_typeOf) (a_cellOf := a_cellOf) (g_begun := g_begun) (g_now := lN t) (g_endings := nI cp) (g_lost := g_lost) (g_got := g_got) (g_taken := g_taken) (g_fault := g_fault) (g_at := g_at) (g_there := g_there) (g_source := g_source) (g_varint := g_varint) (g_found := g_found) (b_kinds := b_kinds) (b_extras := b_extras) (b_bodies := b_bodies) (b_sizes := b_sizes) (b_ended := b_ended) (b_frame := b_frame) hC v1 with ⟨fx, fy, hno⟩ | ⟨p, i, hp, hc, hi, rfl, fx, fy⟩
  · refine fx _ (br_t fa_m1l ?_)
    unfold wpY_release
    exact fy _ (br_t rfl ⟨rfl, same⟩)
  · obtain ⟨a1, a2, a3, a4, a5, a6, a7, a8, a9, a10, a11, a12⟩ := hC.2.2.1 p i hp hc
    have ip : vp_in (nI p) 6 := vp_in_nI hp (by decide)
    have ec : (nI p).toNatClampNeg = p := nI_clamp (by omega)
    have ii : vp_in (nI i) 200 := vp_in_nI (by omega) (by decide)
    have ei : (nI i).toNatClampNeg = i := nI_clamp (by omega)
    have n0 : ¬ nI (stt p) = 0 := nI_ne0 (by omega) (by omega)
    refine fx _ ?_
    refine br_f (nI_pos (n := p) (by omega)) (And.intro ip ?_)
    rw [ec, a6]
    refine pk_eq (stt p) 1 (fun hs => ?_) (fun hs => And.intro ip ?_)
    · unfold wpY_release
      refine fy _ (br_f n0 (fy _ (br_t ?_ ⟨rfl, same⟩)))
      rw [hs]; rfl
    · have n1 : ¬ nI (stt p) = 1 := fun z => hs ((nI_eq (b := 1) (by omega) (by decide)).mp z)
      have done : ∀ (nx' : Nat → Int32) (fr' : Int32) (Fl' : List Nat) (PL' : Nat → List Nat), fh_HR nx' a_first a_last a_fieldOf a_val fr' kd Fl' PL' rt CC → PL' p = [] → (∀ q, q ≠ p → PL' q = PL q) →
          (vp_in (nI p) 6 ∧ ∀ a_callId_84, a_callId_84 = upd a_callId p (vp_nar .short (-1)) → (vp_in (nI i) 200 ∧ ∀ a_placeOf_86, a_placeOf_86 = upd a_placeOf (nI i).toNatClampNeg (vp_nar .byte (-1)) → wpY_release (fun r' v' => r' = 1 ∧ i_Rel (k + 5) (g_begun, nI o, nI (fc_pw cid stt), nI t, nI cp, g_lost, fr', f_state, f_taken, g_fault, f_frameCall, f_at, f_level, f_packEnd, f_shift, f_need, f_entry, f_number, f_acc, a_schema, a_callId_84, a_callState, a_deadline, a_callRoot, a_placeOf_86, a_wheel, a_wheelEnd, a_later, a_sooner, b_ended, nx', a_first, a_last, a_fieldOf, a_val, a_endAt, a_typeOf, a_cellOf) v') (g_begun, nI o, lN t, nI cp, g_lost, g_got, g_taken, g_fault, g_at, g_there, g_source, g_varint, g_found, b_kinds, b_extras, b_state, b_due, b_placeOf, b_used, b_bodies, b_sizes, b_ended, b_frame) (nI i))) := by
        intro nx' fr' Fl' PL' hR hp0 hpq
        refine And.intro ip (nm_r (e' := upd a_callId p (-1)) (by rw [fa_ms]) (And.intro ii (nm_r (e' := upd a_placeOf i (-1)) (by rw [ei, fa_mb]) ?_)))
        unfold wpY_release
        have e1 : b_placeOf (nI i).toNatClampNeg = nI p := by rw [ei]; exact a10
        refine fy _ (br_f n0 (fy _ (br_f n1 (And.intro ii (nm_r (e' := upd b_state i 0) ?_ (And.intro ii (And.intro ?_ (nm_r (e' := upd b_used p 0) ?_ ⟨rfl, ?_⟩))))))))
        · rw [ei, show vp_nar .byte 0 = (0 : Int32) from fa_nb' (n := 0) (by decide)]
        · rw [e1]; exact ip
        · rw [e1, ec, fa_b0]
        · show fr_R (k + 5) g_begun (nI o) (nI (fc_pw cid stt)) (nI t) (nI cp) g_lost fr' f_state f_taken g_fault f_frameCall f_at f_level f_packEnd f_shift f_need f_entry f_number f_acc a_schema (upd a_callId p (-1)) a_callState a_deadline a_callRoot (upd a_placeOf i (-1)) a_wheel a_wheelEnd a_later a_sooner b_ended nx' a_first a_last a_fieldOf a_val a_endAt a_typeOf a_cellOf g_begun (nI o) (lN t) (nI cp) g_lost g_got g_taken g_fault g_at g_there g_source g_varint g_found b_kinds b_extras (upd b_state i 0) b_due b_placeOf (upd b_used p 0) b_bodies b_sizes b_ended b_frame
          have hpw := fc_pwrel (cid := cid) hs
          refine ⟨o, t, cp, sch, fc_u cid p none, stt, dl, WL, kd, Fl', PL', rt, CC, ⟨rfl, rfl, rfl, by rw [hpw], rfl, rfl, rfl, rfl, rfl, rfl, rfl⟩, by omega, by rw [hpw]; exact h3, h4, h5, h6, h7, fc_RCrel hC hp hc, fc_RWrel h9 hs, fun q j hq hj hs' => ?_, hR, fun q hq => ?_, fr_FrH h13 hR (hpq 6 (by omega)), h14, fun hb => ⟨fun q hq => ?_, (h15 hb).2⟩⟩
          · have e : q ≠ p := fun z => by subst z; rw [fc_us] at hj; cases hj
            rw [fc_un e] at hj; exact h10 q j hq hj hs'
          · by_cases e : q = p
            · subst e
              refine ⟨fun _ => hp0, fun j hj => ?_⟩
              rw [fc_us] at hj; cases hj
            · rw [fc_un e, hpq q e]; exact h12 q hq
          · by_cases e : q = p
            · subst e; exact fc_us ..
            · rw [fc_un e]; exact (h15 hb).1 q hq
      have hPl := (h12 p hp).2 i hc
      by_cases h2' : stt p = 2
      · obtain ⟨g1, g2, _⟩ := hPl.2 h2'
        rw [g2]
        refine fx_drop h11.1 (by omega) g1 (fun nx' fr' hH => ?_)
        exact done nx' fr' _ _ (fh_HRfree h11 (by omega) hH) (fh_up_s ..) (fun q hq => fh_up_n hq)
      · obtain ⟨g1, g2⟩ := hPl.1 h2'
        rw [g2]
        exact fx_drop0 (done a_next f_free Fl PL h11 g1 (fun _ _ => rfl))
end
section
/-! field, tick -/
theorem fr_fX {post : Int32 → SX → Prop} {f_begun f_opened f_waiting f_time f_completions f_dropped f_free f_state f_taken f_fault f_frameCall f_at f_level f_packEnd f_shift f_need f_entry f_number : Int32} {f_acc : Int64} {a_schema a_callId a_callState a_deadline a_callRoot a_placeOf a_wheel a_wheelEnd a_later a_sooner a_done a_next a_first a_last a_fieldOf : Nat → Int32} {a_val : Nat → Int64} {a_endAt a_typeOf a_cellOf : Nat → Int32} {p0 p1 p2 p3 : Int32} (KB : ¬ (f_begun = 0 ∧ (¬ p0 < 0) ∧ (¬ 3 < p0) ∧ (¬ p1 < 1) ∧ (¬ 15 < p1) ∧ (¬ p2 < 0) ∧ p2 ≤ 6 ∧ ¬ p3 < 0) → post 0 (f_begun, f_opened, f_waiting, f_time, f_completions, f_dropped, f_free, f_state, f_taken, f_fault, f_frameCall, f_at, f_level, f_packEnd, f_shift, f_need, f_entry, f_number, f_acc, a_schema, a_callId, a_callState, a_deadline, a_callRoot, a_placeOf, a_wheel, a_wheelEnd, a_later, a_sooner, a_done, a_next, a_first, a_last, a_fieldOf, a_val, a_endAt, a_typeOf, a_cellOf))
    (KG : f_begun = 0 → ¬ p0 < 0 → ¬ 3 < p0 → ¬ p1 < 1 → ¬ 15 < p1 → ¬ p2 < 0 → p2 ≤ 6 → ¬ p3 < 0 → wX_field_57 post p0 p1 p2 p3 (if p2 = 6 then 3 else 1) p3 f_begun f_opened f_waiting f_time f_completions f_dropped f_free f_state f_taken f_fault f_frameCall f_at f_level f_packEnd f_shift f_need f_entry f_number f_acc a_schema a_callId a_callState a_deadline a_callRoot a_placeOf a_wheel a_wheelEnd a_later a_sooner a_done a_next a_first a_last a_fieldOf a_val a_endAt a_typeOf a_cellOf) : wpX_field post (f_begun, f_opened, f_waiting, f_time, f_completions, f_dropped, f_free, f_state, f_taken, f_fault, f_frameCall, f_at, f_level, f_packEnd, f_shift, f_need, f_entry, f_number, f_acc, a_schema, a_callId, a_callState, a_deadline, a_callRoot, a_placeOf, a_wheel, a_wheelEnd, a_later, a_sooner, a_done, a_next, a_first, a_last, a_fieldOf, a_val, a_endAt, a_typeOf, a_cellOf) p0 p1 p2 p3 := by
  refine br_c (fun h1 => br_c (fun h => KB (fun z => z.2.1 h)) (fun h2 => br_c (fun h => KB (fun z => z.2.2.1 h)) (fun h3 => br_c (fun h => KB (fun z => z.2.2.2.1 h)) (fun h4 => br_c (fun h => KB (fun z => z.2.2.2.2.1 h)) (fun h5 => br_c (fun h => KB (fun z => z.2.2.2.2.2.1 h)) (fun h6 => br_c (fun h7 => br_c (fun h => KB (fun z => z.2.2.2.2.2.2.2 h)) (fun h8 => ?_)) (fun h => KB (fun z => h z.2.2.2.2.2.2.1)))))))) (fun h => KB (fun z => h z.1))
  have K := KG h1 h2 h3 h4 h5 h6 h7 h8
  exact br_c (fun h => by rw [if_pos h] at K; exact K) (fun h => by rw [if_neg h] at K; exact K)
theorem fr_fY {post : Int32 → SY → Prop} {g_begun g_opened : Int32} {g_now : Int64} {g_endings g_lost g_got g_taken g_fault g_at g_there g_source : Int32} {g_varint : Int64} {g_found : Int32} {b_kinds b_extras b_state : Nat → Int32} {b_due : Nat → Int64} {b_placeOf b_used b_bodies b_sizes b_ended b_frame : Nat → Int32} {p0 p1 p2 p3 : Int32} (KB : ¬ (g_begun = 0 ∧ (¬ p0 < 0) ∧ (¬ 3 < p0) ∧ (¬ p1 < 1) ∧ (¬ 15 < p1) ∧ (¬ p2 < 0) ∧ p2 ≤ 6 ∧ ¬ p3 < 0) → post 0 (g_begun, g_opened, g_now, g_endings, g_lost, g_got, g_taken, g_fault, g_at, g_there, g_source, g_varint, g_found, b_kinds, b_extras, b_state, b_due, b_placeOf, b_used, b_bodies, b_sizes, b_ended, b_frame))
    (KG : g_begun = 0 → ¬ p0 < 0 → ¬ 3 < p0 → ¬ p1 < 1 → ¬ 15 < p1 → ¬ p2 < 0 → p2 ≤ 6 → ¬ p3 < 0 → wY_field_57 post p0 p1 p2 p3 (if p2 = 6 then 3 else 1) p3 g_begun g_opened g_now g_endings g_lost g_got g_taken g_fault g_at g_there g_source g_varint g_found b_kinds b_extras b_state b_due b_placeOf b_used b_bodies b_sizes b_ended b_frame) : wpY_field post (g_begun, g_opened, g_now, g_endings, g_lost, g_got, g_taken, g_fault, g_at, g_there, g_source, g_varint, g_found, b_kinds, b_extras, b_state, b_due, b_placeOf, b_used, b_bodies, b_sizes, b_ended, b_frame) p0 p1 p2 p3 := by
  refine br_c (fun h1 => br_c (fun h => KB (fun z => z.2.1 h)) (fun h2 => br_c (fun h => KB (fun z => z.2.2.1 h)) (fun h3 => br_c (fun h => KB (fun z => z.2.2.2.1 h)) (fun h4 => br_c (fun h => KB (fun z => z.2.2.2.2.1 h)) (fun h5 => br_c (fun h => KB (fun z => z.2.2.2.2.2.1 h)) (fun h6 => br_c (fun h7 => br_c (fun h => KB (fun z => z.2.2.2.2.2.2.2 h)) (fun h8 => ?_)) (fun h => KB (fun z => h z.2.2.2.2.2.2.1)))))))) (fun h => KB (fun z => h z.1))
  have K := KG h1 h2 h3 h4 h5 h6 h7 h8
  exact br_c (fun h => by rw [if_pos h] at K; exact K) (fun h => by rw [if_neg h] at K; exact K)
theorem i_vc_field {k : Nat} {u : SX} {v : SY} (I : i_Rel k u v) (hk : k + 5 ≤ 2560) (v1 : Int32) (v2 : Int32) (v3 : Int32) (v4 : Int32) : wpX_field (fun r u' => wpY_field (fun r' v' => r' = r ∧ i_Rel (k + 5) u' v') v v1 v2 v3 v4) u v1 v2 v3 v4 := by
  revert I
  refine fr_el (P := fun u v => i_Rel k u v → wpX_field (fun r u' => wpY_field (fun r' v' => r' = r ∧ i_Rel (k + 5) u' v') v v1 v2 v3 v4) u v1 v2 v3 v4) ?_ u v
  intro f_begun f_opened f_waiting f_time f_completions f_dropped f_free f_state f_taken f_fault f_frameCall f_at f_level f_packEnd f_shift f_need f_entry f_number f_acc a_schema a_callId a_callState a_deadline a_callRoot a_placeOf a_wheel a_wheelEnd a_later a_sooner a_done a_next a_first a_last a_fieldOf a_val a_endAt a_typeOf a_cellOf g_begun g_opened g_now g_endings g_lost g_got g_taken g_fault g_at g_there g_source g_varint g_found b_kinds b_extras b_state b_due b_placeOf b_used b_bodies b_sizes b_ended b_frame I
  have I2 : fr_R k f_begun f_opened f_waiting f_time f_completions f_dropped f_free f_state f_taken f_fault f_frameCall f_at f_level f_packEnd f_shift f_need f_entry f_number f_acc a_schema a_callId a_callState a_deadline a_callRoot a_placeOf a_wheel a_wheelEnd a_later a_sooner a_done a_next a_first a_last a_fieldOf a_val a_endAt a_typeOf a_cellOf g_begun g_opened g_now g_endings g_lost g_got g_taken g_fault g_at g_there g_source g_varint g_found b_kinds b_extras b_state b_due b_placeOf b_used b_bodies b_sizes b_ended b_frame := I
  clear I
  have same := fr_up I2
  obtain ⟨o, t, cp, sch, cid, stt, dl, WL, kd, Fl, PL, rt, CC, ⟨e1, e2, e3, e4, e5, e6, e7, e8, e9, e10, e11⟩, h2, h3, h4, h5, h6, h7, hC, h9, h10, h11, h12, h13, h14, h15⟩ := I2
  refine fr_fX (fun hb => fr_fY (fun _ => ⟨rfl, same⟩) (fun b1 b2 b3 b4 b5 b6 b7 b8 => absurd ⟨e1.symm.trans b1, b2, b3, b4, b5, b6, b7, b8⟩ hb)) (fun b1 b2 b3 b4 b5 b6 b7 b8 => ?_)
  have yG : ∀ (u' : SX) (r : Int32), wY_field_57 (fun r' v' => r' = r ∧ i_Rel (k + 5) u' v') v1 v2 v3 v4 (if v3 = 6 then 3 else 1) v4 g_begun g_opened g_now g_endings g_lost g_got g_taken g_fault g_at g_there g_source g_varint g_found b_kinds b_extras b_state b_due b_placeOf b_used b_bodies b_sizes b_ended b_frame → wpY_field (fun r' v' => r' = r ∧ i_Rel (k + 5) u' v') (g_begun, g_opened, g_now, g_endings, g_lost, g_got, g_taken, g_fault, g_at, g_there, g_source, g_varint, g_found, b_kinds, b_extras, b_state, b_due, b_placeOf, b_used, b_bodies, b_sizes, b_ended, b_frame) v1 v2 v3 v4 := fun u' r K => fr_fY (fun hb => absurd ⟨e1.trans b1, b2, b3, b4, b5, b6, b7, b8⟩ hb) (fun _ _ _ _ _ _ _ _ => K)
  refine br_c (fun hz => yG _ _ (br_t hz ⟨rfl, same⟩)) (fun hz => ?_)
  obtain ⟨ty, t1, rfl⟩ := nI_of2 (M := 3) (n := 3) (by decide) b2 (Int32.not_lt.mp b3)
  have f0 : ¬ v2 < 0 := fun z => b4 (Int32.lt_trans z (by decide))
  obtain ⟨f, f1, rfl⟩ := nI_of2 (M := 15) (n := 15) (by decide) f0 (Int32.not_lt.mp b5)
  have f2 : 1 ≤ f := by
    have : ¬ f < 1 := fun z => b4 (nI_lt (b := 1) z (by decide))
    omega
  obtain ⟨kd', k1, rfl⟩ := nI_of2 (M := 6) (n := 6) (by decide) b6 b7
  obtain ⟨x, x1, rfl⟩ := nI_of (x := v4) b8
  have hx : x ≤ 3 ∧ (kd' ≠ 6 → x ≤ 1) := by
    by_cases h6' : kd' = 6
    · subst h6'
      rw [if_pos (show nI 6 = 6 from rfl)] at hz
      have := mt (nI_ltI (a := 3) (b := x) (by decide) x1).mpr hz
      omega
    · rw [if_neg (fun z : nI kd' = 6 => h6' ((nI_eq (b := 6) (by omega) (by decide)).mp z))] at hz
      have := mt (nI_ltI (a := 1) (b := x) (by decide) x1).mpr hz
      omega
  have eX : nI ty * 16 + nI f = nI (ty * 16 + f) := by rw [show nI ty * 16 = nI (ty * 16) from pk_mul ty 16, nI_add]
  have iX : vp_in (nI ty * 16 + nI f) 64 := by rw [eX]; exact vp_in_nI (by omega) (by decide)
  have cX : (nI ty * 16 + nI f).toNatClampNeg = ty * 16 + f := by rw [eX, nI_clamp (by omega)]
  have iY : vp_in ((16 : Int32) * nI ty + nI f) 64 := by rw [fy_ix]; exact vp_in_nI (by omega) (by decide)
  have cY : ((16 : Int32) * nI ty + nI f).toNatClampNeg = ty * 16 + f := by rw [fy_ix, nI_clamp (by omega)]
  obtain ⟨y1, y2⟩ := h7 (ty * 16 + f) (by omega)
  have hs28 := (h5 (ty * 16 + f)).1
  have hsx := h6 (ty * 16 + f) (by omega)
  refine And.intro iX ?_
  rw [cX, hsx]
  refine pk_eq (sch (ty * 16 + f)) 0 (fun h0 => ?_) (fun h0 => ?_)
  · refine And.intro iX (nm_r (e' := upd a_schema (ty * 16 + f) (nI (1 + kd' * 4 + x))) ?_ ?_)
    · rw [show nI kd' * 4 = nI (kd' * 4) from pk_mul kd' 4, show (1 : Int32) + nI (kd' * 4) = nI (1 + kd' * 4) from nI_add 1 _, nI_add, fa_nb (by omega)]
    · refine yG _ _ (br_f hz (And.intro iY ?_))
      rw [cY, y1, if_pos h0]
      refine br_t rfl (And.intro iY (nm_r (e' := upd b_kinds (ty * 16 + f) (nI (kd' + 1))) ?_ (And.intro iY (nm_r (e' := upd b_extras (ty * 16 + f) (nI x)) ?_ ⟨rfl, ?_⟩))))
      · rw [nI_1, fa_nb (by omega)]
      · rw [fa_nb (by omega)]
      · show fr_R (k + 5) f_begun f_opened f_waiting f_time f_completions f_dropped f_free f_state f_taken f_fault f_frameCall f_at f_level f_packEnd f_shift f_need f_entry f_number f_acc (upd a_schema (ty * 16 + f) (nI (1 + kd' * 4 + x))) a_callId a_callState a_deadline a_callRoot a_placeOf a_wheel a_wheelEnd a_later a_sooner a_done a_next a_first a_last a_fieldOf a_val a_endAt a_typeOf a_cellOf g_begun g_opened g_now g_endings g_lost g_got g_taken g_fault g_at g_there g_source g_varint g_found (upd b_kinds (ty * 16 + f) (nI (kd' + 1))) (upd b_extras (ty * 16 + f) (nI x)) b_state b_due b_placeOf b_used b_bodies b_sizes b_ended b_frame
        obtain ⟨c1, c2, c3⟩ := h15 b1
        refine ⟨o, t, cp, fc_u sch (ty * 16 + f) (1 + kd' * 4 + x), cid, stt, dl, WL, kd, Fl, PL, rt, CC, ⟨e1, e2, e3, e4, e5, e6, e7, e8, e9, e10, e11⟩, by omega, h3, h4, fun i => ?_, fun i hi => ?_, fun i hi => ?_, hC, h9, h10, h11, fun p hp => ?_, ?_, h14, h15⟩
        · by_cases e : i = ty * 16 + f
          · subst e; rw [fc_us]; omega
          · rw [fc_un e]; exact h5 i
        · by_cases e : i = ty * 16 + f
          · subst e; rw [fc_us, pk_us]
          · rw [fc_un e, pk_un e]; exact h6 i hi
        · by_cases e : i = ty * 16 + f
          · subst e
            rw [fc_us, pk_us, pk_us, if_neg (by omega), if_neg (by omega), show (1 + kd' * 4 + x - 1) / 4 + 1 = kd' + 1 from by omega, show (1 + kd' * 4 + x - 1) % 4 = x from by omega]
            exact ⟨rfl, rfl⟩
          · rw [fc_un e, pk_un e, pk_un e]; exact h7 i hi
        · have hn := c1 p hp
          refine ⟨(h12 p hp).1, fun i hi => ?_⟩
          rw [hn] at hi; cases hi
        · rcases h13.2 c3 with h | ⟨h, _⟩ | ⟨_, _, _, _, _, _, _, _, _, _, _, _, _, _, _, _, hF, _⟩
          · exact ⟨fun z => absurd c3 z, fun _ => Or.inl h⟩
          · rw [c2] at h; exact absurd h (by decide)
          · exfalso
            obtain ⟨_, _, _, hM⟩ := hF
            rw [c2] at hM
            rcases hM with ⟨_, _, h, _⟩ | ⟨_, _, _, _, _, hM⟩
            · exact absurd h (by decide)
            · rcases hM with ⟨_, _, h, _⟩ | ⟨_, _, _, _, _, _, _, hM⟩ | ⟨_, _, _, _, _, _, _, hM⟩
              · exact absurd h (by decide)
              · rcases hM with ⟨_, h, _⟩ | ⟨_, h, _⟩ | ⟨_, h, _⟩
                · rcases h with ⟨h, _⟩ | ⟨h, _⟩ <;> exact absurd h (by decide)
                · exact absurd h (by decide)
                · exact absurd h (by decide)
              · rcases hM with ⟨_, h, _⟩ | ⟨_, _, h, _⟩ <;> exact absurd h (by decide)
  · refine yG _ _ (br_f hz (And.intro iY ?_))
    rw [cY, y1, if_neg h0]
    exact br_f (nI_ne0 (by omega) (by omega)) ⟨rfl, same⟩
section
variable {g_begun g_opened : Int32} {g_now : Int64} {g_endings g_lost g_got g_taken g_fault g_at g_there g_source : Int32} {g_varint : Int64} {g_found : Int32} {b_kinds b_extras b_state : Nat → Int32} {b_due : Nat → Int64} {b_placeOf b_used b_bodies b_sizes b_ended b_frame : Nat → Int32}
theorem fc_eM {A Bp : Int32 → Prop} (h : ∀ r, A r → Bp r) : ∀ n x y, wY_earliest_4 A g_begun g_opened g_now g_endings g_lost g_got g_taken g_fault g_at g_there g_source g_varint g_found b_kinds b_extras b_state b_due b_placeOf b_used b_bodies b_sizes b_ended b_frame n x y → wY_earliest_4 Bp g_begun g_opened g_now g_endings g_lost g_got g_taken g_fault g_at g_there g_source g_varint g_found b_kinds b_extras b_state b_due b_placeOf b_used b_bodies b_sizes b_ended b_frame n x y := by
  intro n
  induction n with
  | zero => intro x y hh; exact hh
  | succ n ih =>
    intro x y hh
    refine ⟨fun c => h _ (hh.1 c), fun c => ?_⟩
    obtain ⟨i1, i2⟩ := hh.2 c
    refine ⟨i1, fun c2 => ?_, fun c2 z ez => ih _ _ (i2.2 c2 z ez)⟩
    obtain ⟨j1, j2⟩ := i2.1 c2
    refine ⟨j1, fun c3 z ez => ih _ _ (j2.1 c3 z ez), fun c3 => ?_⟩
    have k1 := j2.2 c3
    refine ⟨fun c4 z ez => ih _ _ (k1.1 c4 z ez), fun c4 => ?_⟩
    obtain ⟨l1, l2, l3⟩ := k1.2 c4
    exact ⟨l1, l2, fun c5 z ez => ih _ _ (l3.1 c5 z ez), fun c5 z ez => ih _ _ (l3.2 c5 z ez)⟩
theorem fc_eMo {A Bp : Int32 → Prop} (h : ∀ r, A r → Bp r) (hh : wpY_earliest A (g_begun, g_opened, g_now, g_endings, g_lost, g_got, g_taken, g_fault, g_at, g_there, g_source, g_varint, g_found, b_kinds, b_extras, b_state, b_due, b_placeOf, b_used, b_bodies, b_sizes, b_ended, b_frame)) : wpY_earliest Bp (g_begun, g_opened, g_now, g_endings, g_lost, g_got, g_taken, g_fault, g_at, g_there, g_source, g_varint, g_found, b_kinds, b_extras, b_state, b_due, b_placeOf, b_used, b_bodies, b_sizes, b_ended, b_frame) := by
  obtain ⟨n, hn⟩ := hh
  exact ⟨n, fc_eM h n _ _ hn⟩
end
theorem i_vc_tick {k : Nat} {u : SX} {v : SY} (I : i_Rel k u v) (hk : k + 5 ≤ 2560) (v1 : Int32) : wpX_tick (fun r u' => wpY_tick (fun r' v' => r' = r ∧ i_Rel (k + 5) u' v') v v1) u v1 := by
  revert I
  refine fr_el (P := fun u v => i_Rel k u v → wpX_tick (fun r u' => wpY_tick (fun r' v' => r' = r ∧ i_Rel (k + 5) u' v') v v1) u v1) ?_ u v
  intro f_begun f_opened f_waiting f_time f_completions f_dropped f_free f_state f_taken f_fault f_frameCall f_at f_level f_packEnd f_shift f_need f_entry f_number f_acc a_schema a_callId a_callState a_deadline a_callRoot a_placeOf a_wheel a_wheelEnd a_later a_sooner a_done a_next a_first a_last a_fieldOf a_val a_endAt a_typeOf a_cellOf g_begun g_opened g_now g_endings g_lost g_got g_taken g_fault g_at g_there g_source g_varint g_found b_kinds b_extras b_state b_due b_placeOf b_used b_bodies b_sizes b_ended b_frame I
  have I2 : fr_R k f_begun f_opened f_waiting f_time f_completions f_dropped f_free f_state f_taken f_fault f_frameCall f_at f_level f_packEnd f_shift f_need f_entry f_number f_acc a_schema a_callId a_callState a_deadline a_callRoot a_placeOf a_wheel a_wheelEnd a_later a_sooner a_done a_next a_first a_last a_fieldOf a_val a_endAt a_typeOf a_cellOf g_begun g_opened g_now g_endings g_lost g_got g_taken g_fault g_at g_there g_source g_varint g_found b_kinds b_extras b_state b_due b_placeOf b_used b_bodies b_sizes b_ended b_frame := I
  clear I
  have same := fr_up I2
  obtain ⟨o, t, cp, sch, cid, stt, dl, WL, kd, Fl, PL, rt, CC, ⟨e1, e2, e3, e4, e5, e6, e7, e8, e9, e10, e11⟩, h2, h3, h4, h5, h6, h7, hC, h9, h10, h11, h12, h13, h14, h15⟩ := I2
  subst e2 e3 e4 e5 e6 e7 e8 e11
  refine br_c (fun c1 => br_t c1 ⟨rfl, same⟩) (fun c1 => br_c (fun c2 => ?_) (fun c2 => br_f c1 (br_f c2 ⟨rfl, same⟩)))
  have v0 : ¬ v1 < 0 := fun z => c1 (Int32.lt_trans z (by decide))
  obtain ⟨d, d1, rfl⟩ := nI_of2 (M := 1000) (n := 1000) (by decide) v0 c2
  refine nm_r (nI_add t d) ⟨d + 1, ?_⟩
  refine fc_tout (o := o) (cid := cid) (dl := dl) (te := t + d) (G := fun postY => wpY_tick postY (g_begun, nI o, lN t, nI cp, g_lost, g_got, g_taken, g_fault, g_at, g_there, g_source, g_varint, g_found, b_kinds, b_extras, b_state, b_due, b_placeOf, b_used, b_bodies, b_sizes, b_ended, b_frame) (nI d)) (Q := fun stt => fr_Pl cid stt a_callRoot PL rt CC b_sizes b_bodies sch) (g_begun := g_begun) (g_lost := g_lost) (g_got := g_got) (g_taken := g_taken) (g_fault := g_fault) (g_at := g_at) (g_there := g_there) (g_source := g_source) (g_varint := g_varint) (g_found := g_found) (b_kinds := b_kinds) (b_extras := b_extras) (b_bodies := b_bodies) (b_sizes := b_sizes) (b_frame := b_frame) (fun stt p h1 hP => fr_Plc hP (by omega) (by decide)) (by omega) ?_ d t stt WL a_callState a_wheel a_wheelEnd a_later a_sooner b_ended b_state cp 0 8 rfl h12 hC h9 h10 h3 (by have := fc_pw6 cid stt; omega) (fun postY Y => ?_)
  · intro stt' WL' cs wh we la so dn ys cp' c hQ hC' hW' hP' hcp' HY
    refine HY _ ⟨rfl, ?_⟩
    show fr_R (k + 5) f_begun (nI o) (nI (fc_pw cid stt')) (nI (t + d)) (nI cp') f_dropped f_free f_state f_taken f_fault f_frameCall f_at f_level f_packEnd f_shift f_need f_entry f_number f_acc a_schema a_callId cs a_deadline a_callRoot a_placeOf wh we la so dn a_next a_first a_last a_fieldOf a_val a_endAt a_typeOf a_cellOf g_begun (nI o) (lN (t + d)) (nI cp') g_lost g_got g_taken g_fault g_at g_there g_source g_varint g_found b_kinds b_extras ys b_due b_placeOf b_used b_bodies b_sizes dn b_frame
    exact ⟨o, t + d, cp', sch, cid, stt', dl, WL', kd, Fl, PL, rt, CC, ⟨e1, rfl, rfl, rfl, rfl, rfl, rfl, rfl, e9, e10, rfl⟩, by omega, hcp', h4, h5, h6, h7, hC', hW', hP', h11, hQ, h13, h14, h15⟩
  · refine br_f c1 (br_t c2 (nm_r (e' := lN (t + d)) ?_ ?_))
    · rw [nI_l (by omega), lN_add]
    · exact fc_eMo (fun r hr => ⟨8, hr⟩) Y
end
section
/-! open -/
theorem fr_free (cid : Nat → Option Nat) : ∀ n, ∃ p, p ≤ n ∧ (∀ q, q < p → ∃ i, cid q = some i) ∧ (p = n ∨ cid p = none)
  | 0 => ⟨0, Nat.le_refl _, fun q hq => absurd hq (by omega), Or.inl rfl⟩
  | n + 1 => by
    obtain ⟨p, h1, h2, h3⟩ := fr_free cid n
    by_cases e : p = n
    · match hc : cid p with
      | none => exact ⟨p, by omega, h2, Or.inr hc⟩
      | some i =>
        refine ⟨p + 1, by omega, fun q hq => ?_, Or.inl (by omega)⟩
        by_cases e2 : q = p
        · subst e2; exact ⟨i, hc⟩
        · exact h2 q (by omega)
    · exact ⟨p, by omega, h2, Or.inr (h3.resolve_left e)⟩
section
variable {o : Nat} {cid : Nat → Option Nat} {stt dl : Nat → Nat} {ci cs de xp ys : Nat → Int32} {yd : Nat → Int64} {yp yu : Nat → Int32}
theorem fc_RCopen (h : fc_RC o cid stt dl ci cs de xp ys yd yp yu) {p d : Nat} (hp : p < 6) (hn : cid p = none) (ho : o < 200) (hd : d < 2 ^ 30) : fc_RC (o + 1) (fc_u cid p (some o)) (fc_u stt p 1) (fc_u dl p d) (upd ci p (nI o)) (upd cs p (nI 1)) (upd de p (nI d)) (upd xp o (nI p)) (upd ys o (nI 1)) (vp_updL yd o (lN d)) (upd yp o (nI p)) (upd yu p 1) := by
  refine ⟨by omega, fun q hq hc => ?_, fun q j hq hj => ?_, fun j hj => ?_⟩
  · have e : q ≠ p := fun z => by subst z; rw [fc_us] at hc; cases hc
    rw [fc_un e] at hc
    rw [pk_un e, pk_un e]; exact h.2.1 q hq hc
  · by_cases e : q = p
    · subst e
      rw [fc_us] at hj
      cases hj
      rw [fc_us, fc_us, pk_us, pk_us, pk_us, pk_us, pk_us, pk_us, pk_us, pk_uLs]
      exact ⟨by omega, rfl, rfl, by decide, by decide, rfl, rfl, hd, rfl, rfl, rfl, rfl⟩
    · rw [fc_un e] at hj
      obtain ⟨a1, a2, a3, a4, a5, a6, a7, a8, a9, a10, a11, a12⟩ := h.2.2.1 q j hq hj
      have e2 : j ≠ o := by omega
      rw [fc_un e, fc_un e, pk_un e, pk_un e, pk_un e, pk_un e, pk_un e2, pk_un e2, pk_un e2, pk_uLn e2]
      exact ⟨by omega, a2, a3, a4, a5, a6, a7, a8, a9, a10, a11, a12⟩
  · by_cases e : j = o
    · subst e; exact Or.inl ⟨p, hp, fc_us ..⟩
    · rcases h.2.2.2 j (by omega) with ⟨q, hq, hc⟩ | ⟨b1, b2⟩
      · refine Or.inl ⟨q, hq, ?_⟩
        rw [fc_un (fun z : q = p => by subst z; rw [hn] at hc; cases hc)]
        exact hc
      · exact Or.inr ⟨(pk_un e).trans b1, (pk_un e).trans b2⟩
theorem fc_pwopen {p i : Nat} (hp : p < 6) (hn : cid p = none) : fc_pw (fc_u cid p (some i)) (fc_u stt p 1) = fc_pw cid stt + 1 := by
  have h := fh_sumU (g := fc_pn cid stt) (g' := fc_pn (fc_u cid p (some i)) (fc_u stt p 1)) (j := p) (n := 6) hp (fun x _ hx => by unfold fc_pn; rw [fc_un hx, fc_un hx])
  have e1 : fc_pn cid stt p = 0 := if_neg (fun z => z.1 hn)
  have e2 : fc_pn (fc_u cid p (some i)) (fc_u stt p 1) p = 1 := if_pos ⟨by rw [fc_us]; simp, fc_us ..⟩
  unfold fc_pw
  omega
end
section
variable {f_begun f_opened f_waiting f_time f_completions f_dropped f_free f_state f_taken f_fault f_frameCall f_at f_level f_packEnd f_shift f_need f_entry f_number : Int32} {f_acc : Int64} {a_schema a_callId a_callState a_deadline a_callRoot a_placeOf a_wheel a_wheelEnd a_later a_sooner a_done a_next a_first a_last a_fieldOf : Nat → Int32} {a_val : Nat → Int64} {a_endAt a_typeOf a_cellOf : Nat → Int32} {g_begun g_opened : Int32} {g_now : Int64} {g_endings g_lost g_got g_taken g_fault g_at g_there g_source : Int32} {g_varint : Int64} {g_found : Int32} {b_kinds b_extras b_state : Nat → Int32} {b_due : Nat → Int64} {b_placeOf b_used b_bodies b_sizes b_ended b_frame : Nat → Int32} {o : Nat} {cid : Nat → Option Nat} {stt dl : Nat → Nat}
theorem fr_oX {post : Int32 → SX → Prop} {p : Nat} {x1 : Int32} (hC : fc_RC o cid stt dl a_callId a_callState a_deadline a_placeOf b_state b_due b_placeOf b_used) (h1 : p ≤ 6) (h2 : ∀ q, q < p → ∃ i, cid q = some i) (h3 : p = 6 ∨ cid p = none) (K : wX_open_23 post x1 (nI p) f_begun f_opened f_waiting f_time f_completions f_dropped f_free f_state f_taken f_fault f_frameCall f_at f_level f_packEnd f_shift f_need f_entry f_number f_acc a_schema a_callId a_callState a_deadline a_callRoot a_placeOf a_wheel a_wheelEnd a_later a_sooner a_done a_next a_first a_last a_fieldOf a_val a_endAt a_typeOf a_cellOf) : wpX_open post (f_begun, f_opened, f_waiting, f_time, f_completions, f_dropped, f_free, f_state, f_taken, f_fault, f_frameCall, f_at, f_level, f_packEnd, f_shift, f_need, f_entry, f_number, f_acc, a_schema, a_callId, a_callState, a_deadline, a_callRoot, a_placeOf, a_wheel, a_wheelEnd, a_later, a_sooner, a_done, a_next, a_first, a_last, a_fieldOf, a_val, a_endAt, a_typeOf, a_cellOf) x1 := by
  have ho := hC.1
  have key : ∀ d q, q + d = p → wX_open_2 post x1 f_begun f_opened f_waiting f_time f_completions f_dropped f_free f_state f_taken f_fault f_frameCall f_at f_level f_packEnd f_shift f_need f_entry f_number f_acc a_schema a_callId a_callState a_deadline a_callRoot a_placeOf a_wheel a_wheelEnd a_later a_sooner a_done a_next a_first a_last a_fieldOf a_val a_endAt a_typeOf a_cellOf (d + 1) (nI q) := by
    intro d
    induction d with
    | zero =>
      intro q hq
      have e : q = p := by omega
      subst e
      rcases h3 with h3 | h3
      · exact br_t (nI_le (a := 6) (by omega) (by omega)) K
      · by_cases h6 : q = 6
        · exact br_t (nI_le (a := 6) (by omega) (by omega)) K
        · refine br_f (nI_ge (b := 6) (by omega) (by decide)) (And.intro (vp_in_nI (by omega) (by decide)) ?_)
          rw [nI_clamp (by omega), (hC.2.1 q (by omega) h3).1]
          exact br_t fa_m1l K
    | succ d ih =>
      intro q hq
      obtain ⟨i, hi⟩ := h2 q (by omega)
      obtain ⟨a1, a2, _⟩ := hC.2.2.1 q i (by omega) hi
      refine br_f (nI_ge (b := 6) (by omega) (by decide)) (And.intro (vp_in_nI (by omega) (by decide)) ?_)
      rw [nI_clamp (by omega), a2]
      exact br_f (nI_pos (by omega)) (nm_r (nI_1 q) (ih (q + 1) (by omega)))
  exact ⟨p + 1, key p 0 (by omega)⟩
theorem fr_oY {post : Int32 → SY → Prop} {p : Nat} {x1 : Int32} (hC : fc_RC o cid stt dl a_callId a_callState a_deadline a_placeOf b_state b_due b_placeOf b_used) (h1 : p ≤ 6) (h2 : ∀ q, q < p → ∃ i, cid q = some i) (h3 : p = 6 ∨ cid p = none) (K : wY_open_23 post x1 (nI p) g_begun g_opened g_now g_endings g_lost g_got g_taken g_fault g_at g_there g_source g_varint g_found b_kinds b_extras b_state b_due b_placeOf b_used b_bodies b_sizes b_ended b_frame) : wpY_open post (g_begun, g_opened, g_now, g_endings, g_lost, g_got, g_taken, g_fault, g_at, g_there, g_source, g_varint, g_found, b_kinds, b_extras, b_state, b_due, b_placeOf, b_used, b_bodies, b_sizes, b_ended, b_frame) x1 := by
  have key : ∀ d q, q + d = p → wY_open_2 post x1 g_begun g_opened g_now g_endings g_lost g_got g_taken g_fault g_at g_there g_source g_varint g_found b_kinds b_extras b_state b_due b_placeOf b_used b_bodies b_sizes b_ended b_frame (d + 1) (nI q) := by
    intro d
    induction d with
    | zero =>
      intro q hq
      have e : q = p := by omega
      subst e
      rcases h3 with h3 | h3
      · exact br_t (nI_le (a := 6) (by omega) (by omega)) K
      · by_cases h6 : q = 6
        · exact br_t (nI_le (a := 6) (by omega) (by omega)) K
        · refine br_f (nI_ge (b := 6) (by omega) (by decide)) (And.intro (vp_in_nI (by omega) (by decide)) ?_)
          rw [nI_clamp (by omega), (hC.2.1 q (by omega) h3).2]
          exact br_t rfl K
    | succ d ih =>
      intro q hq
      obtain ⟨i, hi⟩ := h2 q (by omega)
      obtain ⟨a1, a2, a3, _⟩ := hC.2.2.1 q i (by omega) hi
      refine br_f (nI_ge (b := 6) (by omega) (by decide)) (And.intro (vp_in_nI (by omega) (by decide)) ?_)
      rw [nI_clamp (by omega), a3]
      exact br_f (by decide) (nm_r (nI_1 q) (ih (q + 1) (by omega)))
  exact ⟨p + 1, key p 0 (by omega)⟩
end
theorem i_vc_open {k : Nat} {u : SX} {v : SY} (I : i_Rel k u v) (hk : k + 5 ≤ 2560) (v1 : Int32) : wpX_open (fun r u' => wpY_open (fun r' v' => r' = r ∧ i_Rel (k + 5) u' v') v v1) u v1 := by
  revert I
  refine fr_el (P := fun u v => i_Rel k u v → wpX_open (fun r u' => wpY_open (fun r' v' => r' = r ∧ i_Rel (k + 5) u' v') v v1) u v1) ?_ u v
  intro f_begun f_opened f_waiting f_time f_completions f_dropped f_free f_state f_taken f_fault f_frameCall f_at f_level f_packEnd f_shift f_need f_entry f_number f_acc a_schema a_callId a_callState a_deadline a_callRoot a_placeOf a_wheel a_wheelEnd a_later a_sooner a_done a_next a_first a_last a_fieldOf a_val a_endAt a_typeOf a_cellOf g_begun g_opened g_now g_endings g_lost g_got g_taken g_fault g_at g_there g_source g_varint g_found b_kinds b_extras b_state b_due b_placeOf b_used b_bodies b_sizes b_ended b_frame I
  have I2 : fr_R k f_begun f_opened f_waiting f_time f_completions f_dropped f_free f_state f_taken f_fault f_frameCall f_at f_level f_packEnd f_shift f_need f_entry f_number f_acc a_schema a_callId a_callState a_deadline a_callRoot a_placeOf a_wheel a_wheelEnd a_later a_sooner a_done a_next a_first a_last a_fieldOf a_val a_endAt a_typeOf a_cellOf g_begun g_opened g_now g_endings g_lost g_got g_taken g_fault g_at g_there g_source g_varint g_found b_kinds b_extras b_state b_due b_placeOf b_used b_bodies b_sizes b_ended b_frame := I
  clear I
  have same := fr_up I2
  obtain ⟨o, t, cp, sch, cid, stt, dl, WL, kd, Fl, PL, rt, CC, ⟨e1, e2, e3, e4, e5, e6, e7, e8, e9, e10, e11⟩, h2, h3, h4, h5, h6, h7, hC, h9, h10, h11, h12, h13, h14, h15⟩ := I2
  subst e2 e3 e4 e5 e6 e7 e8 e11
  obtain ⟨p, p1, p2, p3⟩ := fr_free cid 6
  have ho := hC.1
  have hpw6 := fc_pw6 cid stt
  have yO : ∀ (post : Int32 → SY → Prop), wY_open_23 post v1 (nI p) g_begun (nI o) (lN t) (nI cp) g_lost g_got g_taken g_fault g_at g_there g_source g_varint g_found b_kinds b_extras b_state b_due b_placeOf b_used b_bodies b_sizes b_ended b_frame → wpY_open post (g_begun, nI o, lN t, nI cp, g_lost, g_got, g_taken, g_fault, g_at, g_there, g_source, g_varint, g_found, b_kinds, b_extras, b_state, b_due, b_placeOf, b_used, b_bodies, b_sizes, b_ended, b_frame) v1 := fun post K => fr_oY hC p1 p2 p3 K
  refine fr_oX hC p1 p2 p3 ?_
  refine br_c (fun c1 => br_c (fun c2 => yO _ (br_t (e10.trans c1) (br_t c2 ⟨rfl, same⟩))) (fun c2 => br_c (fun c3 => yO _ (br_t (e10.trans c1) (br_f c2 (br_t c3 ⟨rfl, same⟩)))) (fun c3 => br_c (fun c4 => yO _ (br_t (e10.trans c1) (br_f c2 (br_f c3 (br_t c4 ⟨rfl, same⟩))))) (fun c4 => br_c (fun c5 => yO _ (br_t (e10.trans c1) (br_f c2 (br_f c3 (br_f c4 (br_t c5 ⟨rfl, same⟩)))))) (fun c5 => ?_))))) (fun c1 => yO _ (br_f (fun z => c1 (e10.symm.trans z)) ⟨rfl, same⟩))
  have hp6 : p < 6 := by
    have : p ≠ 6 := fun z => c4 (by rw [z]; rfl)
    omega
  have hcn : cid p = none := p3.resolve_left (by omega)
  have ho2 : o < 200 := by
    have : o ≠ 200 := fun z => c5 (by rw [z]; rfl)
    omega
  have v0 : ¬ v1 < 0 := fun z => c2 (Int32.lt_trans z (by decide))
  obtain ⟨d, d1, rfl⟩ := nI_of2 (M := 1000) (n := 1000) (by decide) v0 (Int32.not_lt.mp c3)
  have hd1 : 1 ≤ d := by
    have : ¬ d < 1 := fun z => c2 (nI_lt (b := 1) z (by decide))
    omega
  have ip : vp_in (nI p) 6 := vp_in_nI hp6 (by decide)
  have ec : (nI p).toNatClampNeg = p := nI_clamp (by omega)
  have io : vp_in (nI o) 200 := vp_in_nI ho2 (by decide)
  have eo : (nI o).toNatClampNeg = o := nI_clamp (by omega)
  refine And.intro ip (nm_r (e' := upd a_callId p (nI o)) (by rw [ec, fa_ns (by omega)]) (And.intro ip (nm_r (e' := upd a_callState p (nI 1)) (by rw [ec]; exact congrArg _ (fa_nb' (n := 1) (by decide))) (And.intro ip (nm_r (e' := upd a_deadline p (nI (t + d))) (by rw [ec, nI_add]) (And.intro ip (nm_r (e' := upd a_callRoot p (-1)) (by rw [ec, fa_ms]) (And.intro io (nm_r (e' := upd a_placeOf o (nI p)) (by rw [eo, fa_nb (by omega)]) ?_)))))))))
  refine fc_enl (p := p) (i := o) (d := t + d) h9 hp6 hcn (fun q j hq hj => (hC.2.2.1 q j hq hj).1) pk_us (by omega) (fun wh' we' la' so' hR => nm_r (nI_1 _) (nm_r (nI_1 o) ?_))
  refine yO _ (br_t (e10.trans c1) (br_f c2 (br_f c3 (br_f c4 (br_f c5 (And.intro ip (nm_r (e' := upd b_used p 1) (by rw [ec]; rfl) (And.intro io (nm_r (e' := upd b_placeOf o (nI p)) (by rw [eo, fa_nb (by omega)]) (And.intro io (nm_r (e' := upd b_state o (nI 1)) (by rw [eo]; exact congrArg _ (fa_nb' (n := 1) (by decide))) (And.intro io (nm_r (e' := vp_updL b_due o (lN (t + d))) (by rw [eo, nI_l (by omega), lN_add]) (nm_r (nI_1 o) ⟨rfl, ?_⟩))))))))))))))
  show fr_R (k + 5) 1 (nI (o + 1)) (nI (fc_pw cid stt + 1)) (nI t) (nI cp) f_dropped f_free f_state f_taken f_fault f_frameCall f_at f_level f_packEnd f_shift f_need f_entry f_number f_acc a_schema (upd a_callId p (nI o)) (upd a_callState p (nI 1)) (upd a_deadline p (nI (t + d))) (upd a_callRoot p (-1)) (upd a_placeOf o (nI p)) wh' we' la' so' b_ended a_next a_first a_last a_fieldOf a_val a_endAt a_typeOf a_cellOf 1 (nI (o + 1)) (lN t) (nI cp) g_lost g_got g_taken g_fault g_at g_there g_source g_varint g_found b_kinds b_extras (upd b_state o (nI 1)) (vp_updL b_due o (lN (t + d))) (upd b_placeOf o (nI p)) (upd b_used p 1) b_bodies b_sizes b_ended b_frame
  have hpw := fc_pwopen (stt := stt) (i := o) hp6 hcn
  refine ⟨o + 1, t, cp, sch, fc_u cid p (some o), fc_u stt p 1, fc_u dl p (t + d), _, kd, Fl, PL, rt, CC, ⟨rfl, rfl, rfl, by rw [hpw], rfl, rfl, rfl, rfl, e9, e10, rfl⟩, by omega, by omega, h4, h5, h6, h7, fc_RCopen hC hp6 hcn ho2 (by omega), hR, fun q j hq hj hs => ?_, h11, fun q hq => ?_, h13, h14, fun z => absurd z (by decide)⟩
  · by_cases e : q = p
    · subst e; rw [fc_us]; omega
    · rw [fc_un e] at hj hs ⊢; exact h10 q j hq hj hs
  · by_cases e : q = p
    · subst e
      refine ⟨fun z => ?_, fun j hj => ⟨fun _ => ⟨(h12 q hq).1 hcn, pk_us⟩, fun z => ?_⟩⟩
      · rw [fc_us] at z; cases z
      · rw [fc_us] at z; exact absurd z (by decide)
    · rw [fc_un e, fc_un e, pk_un e]; exact h12 q hq
end
section
/-! receive: its pieces -/
section
variable {g_begun g_opened : Int32} {g_now : Int64} {g_endings g_lost g_got g_taken g_fault g_at g_there g_source : Int32} {g_varint : Int64} {g_found : Int32} {b_kinds b_extras b_state : Nat → Int32} {b_due : Nat → Int64} {b_placeOf b_used b_bodies b_sizes b_ended b_frame : Nat → Int32}
theorem fr_Y78c {post : Int32 → SY → Prop} {got sz : Nat} (hf : g_fault = 0) (hg : got < 100) (h1 : b_frame 1 = nI sz) (hz : sz ≤ 60) (h : got < 2 ∨ got < sz + 2) (K : post 0 (g_begun, g_opened, g_now, g_endings, g_lost, nI got, g_taken + 1, g_fault, g_at, g_there, g_source, g_varint, g_found, b_kinds, b_extras, b_state, b_due, b_placeOf, b_used, b_bodies, b_sizes, b_ended, b_frame)) : wY_receive_78 post g_begun g_opened g_now g_endings g_lost (nI got) g_taken g_fault g_at g_there g_source g_varint g_found b_kinds b_extras b_state b_due b_placeOf b_used b_bodies b_sizes b_ended b_frame := by
  refine br_t hf (nm_e (pk_lt got 2 (fun _ => K) (fun h2 => ?_)))
  rw [h1, show nI sz + 2 = nI (sz + 2) from nI_add sz 2]
  exact pk_le (sz + 2) got (fun h3 => absurd h (by omega)) (fun _ => K)
theorem fr_Y780 {post : Int32 → SY → Prop} {got : Nat} (hf : g_fault = 0) (hg : got < 2) (K : post 0 (g_begun, g_opened, g_now, g_endings, g_lost, nI got, g_taken + 1, g_fault, g_at, g_there, g_source, g_varint, g_found, b_kinds, b_extras, b_state, b_due, b_placeOf, b_used, b_bodies, b_sizes, b_ended, b_frame)) : wY_receive_78 post g_begun g_opened g_now g_endings g_lost (nI got) g_taken g_fault g_at g_there g_source g_varint g_found b_kinds b_extras b_state b_due b_placeOf b_used b_bodies b_sizes b_ended b_frame :=
  br_t hf (nm_e (pk_lt got 2 (fun _ => K) (fun h2 => absurd hg (by omega))))
theorem fr_Y78d {post : Int32 → SY → Prop} {n : Nat} (hf : ¬ g_fault = 0) (K : wY_receive_87 post n 0 g_begun g_opened g_now g_endings g_lost g_got g_taken g_fault g_at g_there g_source g_varint g_found b_kinds b_extras b_state b_due b_placeOf b_used b_bodies b_sizes b_ended b_frame) : wY_receive_78 post g_begun g_opened g_now g_endings g_lost g_got g_taken g_fault g_at g_there g_source g_varint g_found b_kinds b_extras b_state b_due b_placeOf b_used b_bodies b_sizes b_ended b_frame := br_f hf ⟨n, K⟩
theorem fr_Y78a {post : Int32 → SY → Prop} {sz c : Nat} (hf : g_fault = 0) (h0 : b_frame 0 = nI c) (h1 : b_frame 1 = nI sz) (hz : sz ≤ 60) {r : Int32} (hr : ¬ r = 1)
    (hs : ∀ R : Int32 → Prop, R r → wpY_status R (g_begun, g_opened, g_now, g_endings, g_lost, 0, g_taken + 1, g_fault, g_at, g_there, g_source, g_varint, g_found, b_kinds, b_extras, b_state, b_due, b_placeOf, b_used, b_bodies, b_sizes, b_ended, b_frame) (nI c)) (K : post 2 (g_begun, g_opened, g_now, g_endings, g_lost + 1, 0, g_taken + 1, g_fault, g_at, g_there, g_source, g_varint, g_found, b_kinds, b_extras, b_state, b_due, b_placeOf, b_used, b_bodies, b_sizes, b_ended, b_frame)) : wY_receive_78 post g_begun g_opened g_now g_endings g_lost (nI (sz + 2)) g_taken g_fault g_at g_there g_source g_varint g_found b_kinds b_extras b_state b_due b_placeOf b_used b_bodies b_sizes b_ended b_frame := by
  refine br_t hf (nm_e (br_f (nI_nlt (b := 2) (by omega) (by omega)) ?_))
  rw [h1, show nI sz + 2 = nI (sz + 2) from nI_add sz 2]
  refine br_t (nI_le (Nat.le_refl _) (by omega)) (nm_r h0 ?_)
  exact hs _ (br_f hr (nm_e K))
theorem fr_copy {post : Int32 → SY → Prop} {B : Nat → Int32} {sz p : Nat} {x2 : Int32} (h1 : b_frame 1 = nI sz) (hz : sz ≤ 60) (hp : p < 6) (hB : ∀ x, x < sz → b_frame (2 + x) = B x ∧ vp_nar .short (B x) = B x)
    (K : ∀ bb', (∀ x, x < sz → bb' (60 * p + x) = B x) → (∀ z, z < 60 * p ∨ 60 * p + 60 ≤ z → bb' z = b_bodies z) → wpY_end (fun u => match u with | (f_begun_45, f_opened_46, f_now_47, f_endings_48, f_lost_49, f_got_50, f_taken_51, f_fault_52, f_at_53, f_there_54, f_source_55, f_varint_56, f_found_57, a_kinds_58, a_extras_59, a_state_60, a_due_61, a_placeOf_62, a_used_63, a_bodies_64, a_sizes_65, a_ended_66, a_frame_67) => post 1 (f_begun_45, f_opened_46, f_now_47, f_endings_48, f_lost_49, f_got_50, f_taken_51, f_fault_52, f_at_53, f_there_54, f_source_55, f_varint_56, f_found_57, a_kinds_58, a_extras_59, a_state_60, a_due_61, a_placeOf_62, a_used_63, a_bodies_64, a_sizes_65, a_ended_66, a_frame_67)) (g_begun, g_opened, g_now, g_endings, g_lost, g_got, g_taken, g_fault, g_at, g_there, g_source, g_varint, g_found, b_kinds, b_extras, b_state, b_due, b_placeOf, b_used, bb', b_sizes, b_ended, b_frame) x2 2) :
    ∀ d i bb, i + d = sz → (∀ x, x < i → bb (60 * p + x) = B x) → (∀ z, z < 60 * p ∨ 60 * p + 60 ≤ z → bb z = b_bodies z) → wY_receive_210 post x2 (nI p) g_begun g_opened g_now g_endings g_lost g_got g_taken g_fault g_at g_there g_source g_varint g_found (d + 1) (nI i) b_kinds b_extras b_state b_due b_placeOf b_used bb b_sizes b_ended b_frame := by
  intro d
  induction d with
  | zero =>
    intro i bb hi ha hb
    have e : i = sz := by omega
    subst e
    exact br_t (by rw [h1]; exact nI_le (Nat.le_refl _) (by omega)) (K bb ha hb)
  | succ d ih =>
    intro i bb hi ha hb
    have e2 : (2 : Int32) + nI i = nI (2 + i) := nI_add 2 i
    have e60 : (60 : Int32) * nI p + nI i = nI (60 * p + i) := by rw [show (60 : Int32) * nI p = nI (60 * p) from pk_mul 60 p, nI_add]
    have hBi := hB i (by omega)
    refine br_f (by rw [h1]; exact nI_ge (by omega) (by omega)) (And.intro (by rw [e2]; exact vp_in_nI (by omega) (by decide)) (And.intro (by rw [e60]; exact vp_in_nI (by omega) (by decide)) (nm_r (e' := upd bb (60 * p + i) (B i)) ?_ (nm_r (nI_1 i) (ih (i + 1) _ (by omega) (fun x hx => ?_) (fun z hz' => ?_))))))
    · rw [e60, e2, nI_clamp (by omega), nI_clamp (by omega), hBi.1, hBi.2]
    · by_cases e : x = i
      · subst e; exact pk_us
      · rw [pk_un (by omega)]; exact ha x (by omega)
    · rw [pk_un (by omega)]; exact hb z hz'
theorem fr_Y78b {post : Int32 → SY → Prop} {B : Nat → Int32} {sz c p cp : Nat} (hf : g_fault = 0) (h0 : b_frame 0 = nI c) (h1 : b_frame 1 = nI sz) (hz : sz ≤ 60) (hc : c < 200) (hp : p < 6) (hpl : b_placeOf c = nI p) (hcp : cp < 2 ^ 31) (hB : ∀ x, x < sz → b_frame (2 + x) = B x ∧ vp_nar .short (B x) = B x)
    (hs : ∀ R : Int32 → Prop, R (nI 1) → wpY_status R (g_begun, g_opened, g_now, nI cp, g_lost, 0, g_taken + 1, g_fault, g_at, g_there, g_source, g_varint, g_found, b_kinds, b_extras, b_state, b_due, b_placeOf, b_used, b_bodies, b_sizes, b_ended, b_frame) (nI c))
    (K : ∀ bb', (∀ x, x < sz → bb' (60 * p + x) = B x) → (∀ z, z < 60 * p ∨ 60 * p + 60 ≤ z → bb' z = b_bodies z) → post 1 (g_begun, g_opened, g_now, nI (cp + 1), g_lost, 0, g_taken + 1, g_fault, g_at, g_there, g_source, g_varint, g_found, b_kinds, b_extras, upd b_state c (nI 2), b_due, b_placeOf, b_used, bb', upd b_sizes p (nI sz), upd b_ended (cp % 32) (nI c), b_frame)) :
    wY_receive_78 post g_begun g_opened g_now (nI cp) g_lost (nI (sz + 2)) g_taken g_fault g_at g_there g_source g_varint g_found b_kinds b_extras b_state b_due b_placeOf b_used b_bodies b_sizes b_ended b_frame := by
  refine br_t hf (nm_e (br_f (nI_nlt (b := 2) (by omega) (by omega)) ?_))
  rw [h1, show nI sz + 2 = nI (sz + 2) from nI_add sz 2]
  refine br_t (nI_le (Nat.le_refl _) (by omega)) (nm_r h0 ?_)
  refine hs _ (br_t rfl (And.intro (vp_in_nI hc (by decide)) (nm_r (e' := nI p) (by rw [nI_clamp (by omega)]; exact hpl) (And.intro (vp_in_nI hp (by decide)) (nm_r (e' := upd b_sizes p (nI sz)) (by rw [nI_clamp (by omega), fa_nb (by omega)]) ⟨sz + 1, ?_⟩)))))
  exact fr_copy h1 hz hp hB (fun bb' b1 b2 => fc_end (k := 2) hc (by decide) hcp (K bb' b1 b2)) sz 0 b_bodies (by omega) (fun x hx => absurd hx (by omega)) (fun _ _ => rfl)
end
/-- a byte's store -/
theorem fr_nb {b : Nat} (hb : b ≤ 255) : vp_nar .short (nI b).toInt16.toInt32 = nI b := fa_ns (by omega)
theorem fr_HRs {nx fi la fo : Nat → Int32} {va : Nat → Int64} {fr : Int32} {kd : Nat → List Nat} {Fl : List Nat} {PL : Nat → List Nat} {rt : Nat → Nat} {CC : Nat → fb_Con} {C : fb_Con} (h : fh_HR nx fi la fo va fr kd Fl PL rt (fh_cc CC C)) (h6 : PL 6 = []) : fh_HR nx fi la fo va fr kd Fl PL rt CC := by
  refine ⟨h.1, fun j hj hp => ?_, h.2.2⟩
  have := h.2.1 j hj hp
  rw [fh_ccn (fun z => hp (by rw [z]; exact h6))] at this
  exact this
section
variable {f_begun f_opened f_waiting f_time f_completions f_dropped f_free f_state f_taken f_fault f_frameCall f_at f_level f_packEnd f_shift f_need f_entry f_number : Int32} {f_acc : Int64} {a_schema a_callId a_callState a_deadline a_callRoot a_placeOf a_wheel a_wheelEnd a_later a_sooner a_done a_next a_first a_last a_fieldOf : Nat → Int32} {a_val : Nat → Int64} {a_endAt a_typeOf a_cellOf : Nat → Int32} {g_begun g_opened : Int32} {g_now : Int64} {g_endings g_lost g_got g_taken g_fault g_at g_there g_source : Int32} {g_varint : Int64} {g_found : Int32} {b_kinds b_extras b_state : Nat → Int32} {b_due : Nat → Int64} {b_placeOf b_used b_bodies b_sizes b_ended b_frame : Nat → Int32} {k : Nat} {o t cp : Nat} {sch : Nat → Nat} {cid : Nat → Option Nat} {stt dl : Nat → Nat} {WL : Nat → List Nat} {kd : Nat → List Nat} {Fl : List Nat} {PL : Nat → List Nat} {rt : Nat → Nat} {CC : Nat → fb_Con} {G : (Int32 → SY → Prop) → Prop}
/-- the connection dies -/
theorem fr_die {post : SX → Prop} {f : Nat} (h1 : 1 ≤ f) (h5f : f ≤ 5) (h2 : t ≤ 200 * k) (h3 : cp + fc_pw cid stt = o) (h4 : f_taken = g_taken + 1) (h5 : fb_Sc sch) (h6 : ∀ i, i < 64 → a_schema i = nI (sch i)) (h7 : fy_Sy sch b_kinds b_extras)
    (hC : fc_RC o cid stt dl a_callId a_callState a_deadline a_placeOf b_state b_due b_placeOf b_used) (h9 : fc_RW cid stt dl WL a_wheel a_wheelEnd a_later a_sooner) (h10 : ∀ q i, q < 6 → cid q = some i → stt q = 1 → t < dl q)
    (h11 : fh_HR a_next a_first a_last a_fieldOf a_val f_free kd Fl PL rt CC) (h12 : fr_Pl cid stt a_callRoot PL rt CC b_sizes b_bodies sch) (h14 : a_typeOf 1 = 0)
    (hst : (f_state < 2 ∧ PL 6 = []) ∨ (¬ f_state < 2 ∧ PL 6 ≠ [] ∧ a_cellOf 1 = nI (rt 6)))
    (HY : ∀ postY : Int32 → SY → Prop, wY_receive_87 postY (o + 1) (nI 0) 1 (nI o) (lN t) (nI cp) g_lost g_got g_taken (nI f) g_at g_there g_source g_varint g_found b_kinds b_extras b_state b_due b_placeOf b_used b_bodies b_sizes b_ended b_frame → G postY)
    (hPG : ∀ (u' : SX), G (fun r' v' => r' = 3 ∧ i_Rel (k + 5) u' v') → post u') :
    wpX_die post (1, nI o, nI (fc_pw cid stt), nI t, nI cp, g_lost, f_free, f_state, f_taken, f_fault, f_frameCall, f_at, f_level, f_packEnd, f_shift, f_need, f_entry, f_number, f_acc, a_schema, a_callId, a_callState, a_deadline, a_callRoot, a_placeOf, a_wheel, a_wheelEnd, a_later, a_sooner, b_ended, a_next, a_first, a_last, a_fieldOf, a_val, a_endAt, a_typeOf, a_cellOf) (nI f) := by
  have main : ∀ (nx' : Nat → Int32) (fr' : Int32) (Fl' : List Nat) (PL' : Nat → List Nat), fh_HR nx' a_first a_last a_fieldOf a_val fr' kd Fl' PL' rt CC → PL' 6 = [] → (∀ j, j < 6 → PL' j = PL j) → ∃ n23, wX_die_23 post n23 1 (nI o) (nI (fc_pw cid stt)) (nI t) (nI cp) g_lost fr' f_state f_taken (nI f) f_frameCall f_at f_level f_packEnd f_shift f_need f_entry f_number f_acc a_schema a_callId a_callState a_deadline a_callRoot a_placeOf a_wheel a_wheelEnd a_later a_sooner b_ended nx' a_first a_last a_fieldOf a_val a_endAt a_typeOf a_cellOf := by
    intro nx' fr' Fl' PL' hR hp6 hpj
    refine ⟨fc_pw cid stt + 1, ?_⟩
    refine fc_dieL (o := o) (cid := cid) (dl := dl) (G := G) (Q := fun stt => fr_Pl cid stt a_callRoot PL' rt CC b_sizes b_bodies sch) (g_begun := 1) (g_now := lN t) (g_lost := g_lost) (g_got := g_got) (g_taken := g_taken) (g_fault := nI f) (g_at := g_at) (g_there := g_there) (g_source := g_source) (g_varint := g_varint) (g_found := g_found) (b_kinds := b_kinds) (b_extras := b_extras) (b_bodies := b_bodies) (b_sizes := b_sizes) (b_frame := b_frame) (fun stt p h1 hP => fr_Plc hP (by omega) (by decide)) ?_ (fc_pw cid stt) stt WL a_callState a_wheel a_wheelEnd a_later a_sooner b_ended b_state cp 0 rfl ?_ hC h9 (fun _ _ _ _ _ => Nat.zero_le _) h3 (Nat.zero_le _) HY
    · intro stt' WL' cs wh we la so dn ys cp' hQ hC' hW' hnp hcp' HY'
      refine hPG _ (HY' _ ⟨rfl, ?_⟩)
      show fr_R (k + 5) 1 (nI o) (nI (fc_pw cid stt')) (nI t) (nI cp') g_lost fr' f_state f_taken (nI f) f_frameCall f_at f_level f_packEnd f_shift f_need f_entry f_number f_acc a_schema a_callId cs a_deadline a_callRoot a_placeOf wh we la so dn nx' a_first a_last a_fieldOf a_val a_endAt a_typeOf a_cellOf 1 (nI o) (lN t) (nI cp') g_lost g_got g_taken (nI f) g_at g_there g_source g_varint g_found b_kinds b_extras ys b_due b_placeOf b_used b_bodies b_sizes dn b_frame
      have hf0 : ¬ nI f = 0 := nI_ne0 h1 (by omega)
      exact ⟨o, t, cp', sch, cid, stt', dl, WL', kd, Fl', PL', rt, CC, ⟨rfl, rfl, rfl, rfl, rfl, rfl, rfl, rfl, rfl, rfl, rfl⟩, by omega, hcp', by rw [if_neg hf0]; exact h4, h5, h6, h7, hC', hW', fun q i hq hi hs => absurd hs (hnp q i hq hi), hR, hQ, ⟨fun _ => hp6, fun z => absurd z hf0⟩, h14, fun z => absurd z (by decide)⟩
    · intro p hp
      rw [hpj p hp]; exact h12 p hp
  rcases hst with ⟨s1, s2⟩ | ⟨s1, s2, s3⟩
  · exact br_t s1 (main a_next f_free Fl PL h11 s2 (fun _ _ => rfl))
  · refine br_f s1 ?_
    rw [s3]
    exact fx_drop h11.1 (by omega) s2 (fun nx' fr' hH => main nx' fr' _ _ (fh_HRfree h11 (by omega) hH) (fh_up_s ..) (fun j hj => fh_up_n (by omega)))
/-- the frame has ended -/
theorem fr_fe {post : Int32 → SX → Prop} {B : Nat → Int32} {sz c : Nat} (hz : sz ≤ 60) (hc : c ≤ 255) (h2 : t ≤ 200 * k) (h3 : cp + fc_pw cid stt = o) (h4 : f_taken = g_taken + 1) (h5 : fb_Sc sch) (h6 : ∀ i, i < 64 → a_schema i = nI (sch i)) (h7 : fy_Sy sch b_kinds b_extras)
    (hC : fc_RC o cid stt dl a_callId a_callState a_deadline a_placeOf b_state b_due b_placeOf b_used) (h9 : fc_RW cid stt dl WL a_wheel a_wheelEnd a_later a_sooner) (h10 : ∀ q i, q < 6 → cid q = some i → stt q = 1 → t < dl q)
    (h11 : fh_HR a_next a_first a_last a_fieldOf a_val f_free kd Fl PL rt CC) (h12 : fr_Pl cid stt a_callRoot PL rt CC b_sizes b_bodies sch) (h14 : a_typeOf 1 = 0)
    (hp6 : PL 6 ≠ []) (hl6 : (PL 6).length ≤ 61) (hce : a_cellOf 1 = nI (rt 6)) (hT : fb_Tr sch B sz sz [] none (CC 6)) (hf0 : b_frame 0 = nI c) (hf1 : b_frame 1 = nI sz) (hB : ∀ x, x < sz → b_frame (2 + x) = B x ∧ vp_nar .short (B x) = B x)
    (HY : ∀ postY : Int32 → SY → Prop, wY_receive_78 postY 1 (nI o) (lN t) (nI cp) g_lost (nI (sz + 2)) g_taken 0 g_at g_there g_source g_varint g_found b_kinds b_extras b_state b_due b_placeOf b_used b_bodies b_sizes b_ended b_frame → G postY)
    (hPG : ∀ (r : Int32) (u' : SX), G (fun r' v' => r' = r ∧ i_Rel (k + 5) u' v') → post r u') :
    wpX_frameEnds post (1, nI o, nI (fc_pw cid stt), nI t, nI cp, g_lost, f_free, f_state, f_taken, 0, nI c, f_at, f_level, f_packEnd, f_shift, f_need, f_entry, f_number, f_acc, a_schema, a_callId, a_callState, a_deadline, a_callRoot, a_placeOf, a_wheel, a_wheelEnd, a_later, a_sooner, b_ended, a_next, a_first, a_last, a_fieldOf, a_val, a_endAt, a_typeOf, a_cellOf) := by
  have ho := hC.1
  have lost : ∀ r : Int32, ¬ r = 1 → (∀ R : Int32 → Prop, R r → wpY_status R (1, nI o, lN t, nI cp, g_lost, 0, g_taken + 1, 0, g_at, g_there, g_source, g_varint, g_found, b_kinds, b_extras, b_state, b_due, b_placeOf, b_used, b_bodies, b_sizes, b_ended, b_frame) (nI c)) → wX_frameEnds_48 post 1 (nI o) (nI (fc_pw cid stt)) (nI t) (nI cp) g_lost f_free 0 f_taken 0 (nI c) f_at f_level f_packEnd f_shift f_need f_entry f_number f_acc a_schema a_callId a_callState a_deadline a_callRoot a_placeOf a_wheel a_wheelEnd a_later a_sooner b_ended a_next a_first a_last a_fieldOf a_val a_endAt a_typeOf a_cellOf := by
    intro r hr fy
    unfold wX_frameEnds_48
    rw [hce]
    refine fx_drop h11.1 (by omega) hp6 (fun nx' fr' hH => nm_e (hPG _ _ (HY _ (fr_Y78a (g_fault := 0) rfl hf0 hf1 hz hr fy ⟨rfl, ?_⟩))))
    have hR := fh_HRfree h11 (by omega) hH
    show fr_R (k + 5) 1 (nI o) (nI (fc_pw cid stt)) (nI t) (nI cp) (g_lost + 1) fr' 0 f_taken 0 (nI c) f_at f_level f_packEnd f_shift f_need f_entry f_number f_acc a_schema a_callId a_callState a_deadline a_callRoot a_placeOf a_wheel a_wheelEnd a_later a_sooner b_ended nx' a_first a_last a_fieldOf a_val a_endAt a_typeOf a_cellOf 1 (nI o) (lN t) (nI cp) (g_lost + 1) 0 (g_taken + 1) 0 g_at g_there g_source g_varint g_found b_kinds b_extras b_state b_due b_placeOf b_used b_bodies b_sizes b_ended b_frame
    exact ⟨o, t, cp, sch, cid, stt, dl, WL, kd, _, fh_up PL 6 [], rt, CC, ⟨rfl, rfl, rfl, rfl, rfl, rfl, rfl, rfl, rfl, rfl, rfl⟩, by omega, h3, by rw [if_pos rfl]; exact h4, h5, h6, h7, hC, h9, h10, hR, fun p hp => by rw [fh_up_n (by omega)]; exact h12 p hp, ⟨fun z => absurd rfl z, fun _ => Or.inl ⟨rfl, rfl, fh_up_s ..⟩⟩, h14, fun z => absurd z (by decide)⟩
  unfold wpX_frameEnds
  rcases fr_fs (f_begun := 1) (f_waiting := nI (fc_pw cid stt)) (f_time := nI t) (f_completions := nI cp) (f_dropped := g_lost) (f_free := f_free) (f_state := 0) (f_taken := f_taken) (f_fault := 0) (f_frameCall := nI c) (f_at := f_at) (f_level := f_level) (f_packEnd := f_packEnd) (f_shift := f_shift) (f_need := f_need) (f_entry := f_entry) (f_number := f_number) (f_acc := f_acc) (a_schema := a_schema) (a_callRoot := a_callRoot) (a_wheel := a_wheel) (a_wheelEnd := a_wheelEnd) (a_later := a_later) (a_sooner := a_sooner) (a_done := b_ended) (a_next := a_next) (a_first := a_first) (a_last := a_last) (a_fieldOf := a_fieldOf) (a_val := a_val) (a_endAt := a_endAt) (a_typeOf := a_typeOf) (a_cellOf := a_cellOf) (g_begun := 1) (g_now := lN t) (g_endings := nI cp) (g_lost := g_lost) (g_got := 0) (g_taken := g_taken + 1) (g_fault := 0) (g_at := g_at) (g_there := g_there) (g_source := g_source) (g_varint := g_varint) (g_found := g_found) (b_kinds := b_kinds) (b_extras := b_extras) (b_bodies := b_bodies) (b_sizes := b_sizes) (b_ended := b_ended) (b_frame := b_frame) hC (nI c) with ⟨fx, fy, hno⟩ | ⟨p, i, hp, hci, hi, hx, fx, fy⟩
  · exact fx _ (br_t fa_m1l (lost 0 (by decide) fy))
  · have ei := (nI_eq (by omega) (by omega)).mp hx
    subst ei
    obtain ⟨a1, a2, a3, a4, a5, a6, a7, a8, a9, a10, a11, a12⟩ := hC.2.2.1 p c hp hci
    have ip : vp_in (nI p) 6 := vp_in_nI hp (by decide)
    have ec : (nI p).toNatClampNeg = p := nI_clamp (by omega)
    refine fx _ ?_
    refine br_f (nI_pos (n := p) (by omega)) (And.intro ip ?_)
    rw [ec, a6]
    refine pk_eq (stt p) 1 (fun hs => ?_) (fun hs => lost (nI (stt p)) (fun z => hs ((nI_eq (b := 1) (by omega) (by decide)).mp z)) fy)
    have hpw := fc_pwend (k := 2) hp hci hs (by decide)
    have hm := (h9.2.1 (dl p % 32) p (Nat.mod_lt _ (by decide))).mpr ⟨hp, ⟨c, hci⟩, hs, rfl⟩
    obtain ⟨A, D, hAD⟩ := List.append_of_mem hm
    have hw1 : fc_pw cid stt = fc_pw cid (fc_u stt p 2) + 1 := hpw.symm
    have hp0 : PL p = [] := (((h12 p hp).2 c hci).1 (by omega)).1
    have hrb : rt 6 < 427 := fh_HpL h11.1 (j := 6) (by omega) (fh_Pr (fh_HpQ h11.1 (by omega) hp6))
    refine And.intro ip (nm_r (e' := upd a_callRoot p (nI (rt 6))) (by rw [hce, fa_ns' (by omega)]) ?_)
    have h3' : cp + 1 + fc_pw cid (fc_u stt p 2) = o := by omega
    rw [hw1]
    refine fc_comp (A := A) (D := D) (k := 2) h9 hp hci (by omega) (by decide) (by decide) a7 (by omega) a2 hAD (by omega) (fun wh' we' la' so' hR => ?_)
    rw [hs] at fy
    refine hPG _ _ (HY _ (fr_Y78b (g_fault := 0) rfl hf0 hf1 hz (by omega) hp a10 (by omega) hB fy (fun bb' q1 q2 => ⟨rfl, ?_⟩)))
    show fr_R (k + 5) 1 (nI o) (nI (fc_pw cid (fc_u stt p 2))) (nI t) (nI (cp + 1)) g_lost f_free 0 f_taken 0 (nI c) f_at f_level f_packEnd f_shift f_need f_entry f_number f_acc a_schema a_callId (upd a_callState p (nI 2)) a_deadline (upd a_callRoot p (nI (rt 6))) a_placeOf wh' we' la' so' (upd b_ended (cp % 32) (nI c)) a_next a_first a_last a_fieldOf a_val a_endAt a_typeOf a_cellOf 1 (nI o) (lN t) (nI (cp + 1)) g_lost 0 (g_taken + 1) 0 g_at g_there g_source g_varint g_found b_kinds b_extras (upd b_state c (nI 2)) b_due b_placeOf b_used bb' (upd b_sizes p (nI sz)) (upd b_ended (cp % 32) (nI c)) b_frame
    refine ⟨o, t, cp + 1, sch, cid, fc_u stt p 2, dl, _, kd, Fl, _, _, _, ⟨rfl, rfl, rfl, rfl, rfl, rfl, rfl, rfl, rfl, rfl, rfl⟩, by omega, h3', by rw [if_pos rfl]; exact h4, h5, h6, h7, fc_RCend hC hp hci (by decide) (by decide), hR, fun q j hq hj hs' => ?_, fh_HRmove h11 hp hp0 hl6, fun q hq => ?_, ⟨fun z => absurd rfl z, fun _ => Or.inl ⟨rfl, rfl, fh_up_s ..⟩⟩, h14, fun z => absurd z (by decide)⟩
    · by_cases e : q = p
      · subst e; rw [fc_us] at hs'; exact absurd hs' (by decide)
      · rw [fc_un e] at hs'; exact h10 q j hq hj hs'
    · rw [fh_up_n (by omega)]
      dsimp only
      by_cases e : q = p
      · subst e
        rw [fh_up_s, fc_us, pk_us, pk_us, if_pos rfl, if_pos rfl]
        refine ⟨fun z => ?_, fun j hj => ⟨fun z => absurd rfl z, fun _ => ⟨hp6, rfl, B, sz, hz, rfl, q1, hT⟩⟩⟩
        rw [hci] at z; cases z
      · rw [fh_up_n e, fc_un e, pk_un e, pk_un e, if_neg e, if_neg e]
        refine ⟨(h12 q hq).1, fun j hj => ⟨((h12 q hq).2 j hj).1, fun z => ?_⟩⟩
        obtain ⟨g1, g2, B', sz', g3, g4, g5, g6⟩ := ((h12 q hq).2 j hj).2 z
        refine ⟨g1, g2, B', sz', g3, g4, fun x hx => ?_, g6⟩
        rw [q2 _ (by omega)]; exact g5 x hx
end
end
section
/-! receive: facts of the frame's state -/
theorem fx_MoS {sch : Nat → Nat} {B : Nat → Int32} {a s : Nat} {stk : fb_Stk} {pk : Option (Nat × Nat × Nat)} {st pe sh nd en nu : Int32} {ac : Int64} (h : fx_Mo sch B a s stk pk st pe sh nd en nu ac) : ¬ st < 2 := by
  rcases h with ⟨_, _, rfl, _⟩ | ⟨e, ty, pa, r, _, hM⟩
  · decide
  · rcases hM with ⟨_, _, rfl, _⟩ | ⟨_, _, _, _, _, _, _, hM⟩ | ⟨_, _, _, _, _, _, _, hM⟩
    · decide
    · rcases hM with ⟨_, h, _⟩ | ⟨_, rfl, _⟩ | ⟨_, rfl, _⟩
      · rcases h with ⟨rfl, _⟩ | ⟨rfl, _⟩ <;> decide
      · decide
      · decide
    · rcases hM with ⟨_, rfl, _⟩ | ⟨_, _, rfl, _⟩ <;> decide
theorem fx_MoL {sch : Nat → Nat} {B : Nat → Int32} {a s e ty pa : Nat} {r : fb_Stk} {pk : Option (Nat × Nat × Nat)} {st pe sh nd en nu : Int32} {ac : Int64} (h : fx_Mo sch B a s ((e, ty, pa) :: r) pk st pe sh nd en nu ac) (hp : fb_WP sch s ((e, ty, pa) :: r) pk) : a < e := by
  rcases h with ⟨h, _⟩ | ⟨e', ty', pa', r', hh, hM⟩
  · cases h
  · cases hh
    rcases hM with ⟨_, _, _, n, _, h, _⟩ | ⟨_, _, s1, k, hk, _, _, hM⟩ | ⟨p, k, f, rfl, _, _, _, hM⟩
    · exact h
    · have h5 := hk.2.2.2.2
      rcases hM with ⟨_, _, _, h, _⟩ | ⟨n, _, _, _, h1, h2, _⟩ | ⟨n, _, _, h0, _, h⟩
      · exact h
      · omega
      · rcases h with ⟨_, _, h⟩ | ⟨_, s2, m, _, h1, _, h2⟩ <;> omega
    · obtain ⟨e2, ty2, pa2, r2, hh, w1, w2, _⟩ := hp p k f rfl
      cases hh
      rcases hM with ⟨n, _, _, _, _, h, _⟩ | ⟨n, w, _, _, h1, h2, h3, _⟩ <;> omega
theorem fx_FmB {sch : Nat → Nat} {B B' : Nat → Int32} {sz a s : Nat} {stk : fb_Stk} {pk : Option (Nat × Nat × Nat)} {C : fb_Con} {st lv pe sh nd en nu : Int32} {ac : Int64} {ea ta : Nat → Int32} (h : fx_Fm sch B sz a s stk pk C st lv pe sh nd en nu ac ea ta) (g : ∀ i, i < a → B i = B' i) : fx_Fm sch B' sz a s stk pk C st lv pe sh nd en nu ac ea ta := by
  obtain ⟨t, h1, h2, hM⟩ := h
  have hsa : s ≤ a := by
    rcases hM with ⟨_, _, _, h⟩ | ⟨e, ty, pa, r, _, hM⟩
    · omega
    · rcases hM with ⟨_, _, _, n, h, _⟩ | ⟨_, _, s1, k, hk, _, _, hM⟩ | ⟨p, k, f, _, _, _, _, hM⟩
      · omega
      · have := fb_KeyL hk
        rcases hM with ⟨n, _, h, _⟩ | ⟨n, _, _, _, h, _⟩ | ⟨n, _, _, _, _, h⟩
        · omega
        · omega
        · rcases h with ⟨_, h, _⟩ | ⟨_, s2, m, hv, _, h, _⟩
          · omega
          · have := fb_VrL hv; omega
      · rcases hM with ⟨n, _, _, _, h, _⟩ | ⟨n, w, _, _, h, _⟩ <;> omega
  refine ⟨fb_TrB t (fun i hi => g i (by omega)), h1, h2, ?_⟩
  rcases hM with h | ⟨e, ty, pa, r, rfl, hM⟩
  · exact Or.inl h
  · refine Or.inr ⟨e, ty, pa, r, rfl, ?_⟩
    rcases hM with ⟨b1, b2, b3, n, b4, b5, b6, b7⟩ | ⟨b1, b2, s1, k, hk, b3, b4, hM⟩ | ⟨p, k, f, b1, b2, b3, b4, hM⟩
    · exact Or.inl ⟨b1, b2, b3, n, b4, b5, b6, fb_PvC b7 (fun i hi => g i (by omega))⟩
    · right; left
      have hs1 : s1 ≤ a := by
        rcases hM with ⟨n, _, h, _⟩ | ⟨n, _, _, _, h, _⟩ | ⟨n, _, _, _, _, h⟩
        · omega
        · omega
        · rcases h with ⟨_, h, _⟩ | ⟨_, s2, m, hv, _, h, _⟩
          · omega
          · have := fb_VrL hv; omega
      refine ⟨b1, b2, s1, k, fb_KeyC hk (fun i hi => g i (by omega)), b3, b4, ?_⟩
      rcases hM with ⟨n, c1, c2, c3, c4, c5⟩ | ⟨n, c1, c2, c3, c4, c5, c6, c7, c8⟩ | ⟨n, c1, c2, c3, c4, h⟩
      · exact Or.inl ⟨n, c1, c2, c3, c4, fb_PvC c5 (fun i hi => g i (by omega))⟩
      · exact Or.inr (Or.inl ⟨n, c1, c2, c3, c4, c5, c6, c7, by rw [c8]; exact fb_baC n (fun i hi => g i (by omega))⟩)
      · refine Or.inr (Or.inr ⟨n, c1, c2, c3, c4, ?_⟩)
        rcases h with h | ⟨d1, s2, m, d2, d3, d4, d5⟩
        · exact Or.inl h
        · exact Or.inr ⟨d1, s2, m, fb_VrC d2 (fun i hi => g i (by omega)), d3, d4, d5⟩
    · right; right
      refine ⟨p, k, f, b1, b2, b3, b4, ?_⟩
      rcases hM with ⟨n, c1, c2, c3, c4, c5, c6, c7⟩ | ⟨n, w, c1, c2, c3, c4, c5, c6, c7, c8⟩
      · exact Or.inl ⟨n, c1, c2, c3, c4, c5, c6, fb_PvC c7 (fun i hi => g i (by omega))⟩
      · exact Or.inr ⟨n, w, c1, c2, c3, c4, c5, c6, c7, by rw [c8]; exact fb_baC n (fun i hi => g i (by omega))⟩
section
variable {g_begun g_opened : Int32} {g_now : Int64} {g_endings g_lost g_got g_taken g_fault g_at g_there g_source : Int32} {g_varint : Int64} {g_found : Int32} {b_kinds b_extras b_state : Nat → Int32} {b_due : Nat → Int64} {b_placeOf b_used b_bodies b_sizes b_ended b_frame : Nat → Int32}
theorem fr_Yr {post : Int32 → SY → Prop} {g b : Nat} (hg : g < 62) (hb : b ≤ 255)
    (K1 : g = 1 → 60 < b → wY_receive_62 post 1 g_opened g_now g_endings g_lost (nI (g + 1)) g_taken 1 g_at g_there g_source g_varint g_found b_kinds b_extras b_state b_due b_placeOf b_used b_bodies b_sizes b_ended (upd b_frame g (nI b)))
    (K0 : (g ≠ 1 ∨ b ≤ 60) → wY_receive_62 post 1 g_opened g_now g_endings g_lost (nI (g + 1)) g_taken 0 g_at g_there g_source g_varint g_found b_kinds b_extras b_state b_due b_placeOf b_used b_bodies b_sizes b_ended (upd b_frame g (nI b))) : wpY_receive post (g_begun, g_opened, g_now, g_endings, g_lost, nI g, g_taken, 0, g_at, g_there, g_source, g_varint, g_found, b_kinds, b_extras, b_state, b_due, b_placeOf, b_used, b_bodies, b_sizes, b_ended, b_frame) (nI b) := by
  refine br_t rfl (br_f (nI_pos (by omega)) (br_t (nI_le (b := 255) hb (by decide)) (nm_r (nI_1 g) (And.intro (vp_in_nI hg (by decide)) (nm_r (e' := upd b_frame g (nI b)) (by rw [nI_clamp (by omega), fr_nb hb]) ?_)))))
  refine pk_eq (g + 1) 2 (fun h => pk_le b 60 (fun h2 => K0 (Or.inr h2)) (fun h2 => K1 (by omega) h2)) (fun h => K0 (Or.inl (by omega)))
theorem fr_Yck {sch : Nat → Nat} {B : Nat → Int32} {sz L : Nat} {r : Int32} (hck : fy_Ck sch B sz L r) (hL : 1 ≤ L) (hL2 : L ≤ 60) (hy : fy_Sy sch b_kinds b_extras) (hB : fy_By (-1) b_bodies b_frame B L) (hf : b_frame 1 = nI sz) :
    ∃ at' vr fd, ∀ postY : Int32 → SY → Prop, wY_receive_78 postY g_begun g_opened g_now g_endings g_lost (nI (L + 2)) g_taken r at' (nI L) (-1) vr fd b_kinds b_extras b_state b_due b_placeOf b_used b_bodies b_sizes b_ended b_frame → wY_receive_62 postY g_begun g_opened g_now g_endings g_lost (nI (L + 2)) g_taken g_fault g_at g_there g_source g_varint g_found b_kinds b_extras b_state b_due b_placeOf b_used b_bodies b_sizes b_ended b_frame := by
  obtain ⟨at', vr, fd, H⟩ := hck g_begun g_opened g_now g_endings g_lost g_taken g_fault g_at g_there g_source g_varint g_found b_kinds b_extras b_state b_due b_placeOf b_used b_bodies b_sizes b_ended b_frame hy hB hf
  exact ⟨at', vr, fd, fun postY K => br_f (nI_ge (a := 2) (by omega) (by omega)) (H _ K)⟩
end
end
section
/-! receive -/
theorem i_vc_receive {k : Nat} {u : SX} {v : SY} (I : i_Rel k u v) (hk : k + 5 ≤ 2560) (v1 : Int32) : wpX_receive (fun r u' => wpY_receive (fun r' v' => r' = r ∧ i_Rel (k + 5) u' v') v v1) u v1 := by
  revert I
  refine fr_el (P := fun u v => i_Rel k u v → wpX_receive (fun r u' => wpY_receive (fun r' v' => r' = r ∧ i_Rel (k + 5) u' v') v v1) u v1) ?_ u v
  intro f_begun f_opened f_waiting f_time f_completions f_dropped f_free f_state f_taken f_fault f_frameCall f_at f_level f_packEnd f_shift f_need f_entry f_number f_acc a_schema a_callId a_callState a_deadline a_callRoot a_placeOf a_wheel a_wheelEnd a_later a_sooner a_done a_next a_first a_last a_fieldOf a_val a_endAt a_typeOf a_cellOf g_begun g_opened g_now g_endings g_lost g_got g_taken g_fault g_at g_there g_source g_varint g_found b_kinds b_extras b_state b_due b_placeOf b_used b_bodies b_sizes b_ended b_frame I
  have I2 : fr_R k f_begun f_opened f_waiting f_time f_completions f_dropped f_free f_state f_taken f_fault f_frameCall f_at f_level f_packEnd f_shift f_need f_entry f_number f_acc a_schema a_callId a_callState a_deadline a_callRoot a_placeOf a_wheel a_wheelEnd a_later a_sooner a_done a_next a_first a_last a_fieldOf a_val a_endAt a_typeOf a_cellOf g_begun g_opened g_now g_endings g_lost g_got g_taken g_fault g_at g_there g_source g_varint g_found b_kinds b_extras b_state b_due b_placeOf b_used b_bodies b_sizes b_ended b_frame := I
  clear I
  have same := fr_up I2
  obtain ⟨o, t, cp, sch, cid, stt, dl, WL, kd, Fl, PL, rt, CC, ⟨e1, e2, e3, e4, e5, e6, e7, e8, e9, e10, e11⟩, h2, h3, h4, h5, h6, h7, hC, h9, h10, h11, h12, h13, h14, h15⟩ := I2
  refine br_c (fun c1 => ?_) (fun c1 => br_f (fun z => c1 (e10.symm.trans z)) ⟨rfl, same⟩)
  have c1y : g_fault = 0 := e10.trans c1
  refine br_c (fun c2 => br_t c1y (br_t c2 ⟨rfl, same⟩)) (fun c2 => br_c (fun c3 => ?_) (fun c3 => br_t c1y (br_f c2 (br_f c3 ⟨rfl, same⟩))))
  obtain ⟨b, hb, rfl⟩ := nI_of2 (M := 255) (n := 255) (by decide) c2 c3
  clear same
  subst c1 c1y e1 e2 e3 e4 e5 e6 e7 e8 e9 e11
  rw [if_pos rfl] at h4
  have h4' := h4.symm
  clear h4
  subst h4'
  have ho := hC.1
  have hpw6 := fc_pw6 cid stt
  refine nm_e ?_
  rcases h13.2 rfl with ⟨s1, s2, s3⟩ | ⟨s1, s2, s3, c, s4, s5, s6⟩ | ⟨c, B, sz, a, s, stk, pk, s1, s2, s3, s4, s5, s6, s7, s8, s9, s10, s11⟩
  · subst s1 s2
    refine br_t rfl (br_t rfl (br_t (by decide) ?_))
    refine fr_Yr (g := 0) (b := b) (by decide) hb (fun z => absurd z (by decide)) (fun _ => br_t (by decide) (fr_Y780 (got := 1) (g_fault := 0) rfl (by decide) ⟨rfl, ?_⟩))
    show fr_R (k + 5) 1 (nI o) (nI (fc_pw cid stt)) (nI t) (nI cp) g_lost f_free 1 (g_taken + 1) 0 (nI b) f_at f_level f_packEnd f_shift f_need f_entry f_number f_acc a_schema a_callId a_callState a_deadline a_callRoot a_placeOf a_wheel a_wheelEnd a_later a_sooner b_ended a_next a_first a_last a_fieldOf a_val a_endAt a_typeOf a_cellOf 1 (nI o) (lN t) (nI cp) g_lost (nI 1) (g_taken + 1) 0 g_at g_there g_source g_varint g_found b_kinds b_extras b_state b_due b_placeOf b_used b_bodies b_sizes b_ended (upd b_frame 0 (nI b))
    exact ⟨o, t, cp, sch, cid, stt, dl, WL, kd, Fl, PL, rt, CC, ⟨rfl, rfl, rfl, rfl, rfl, rfl, rfl, rfl, rfl, rfl, rfl⟩, by omega, h3, by rw [if_pos rfl], h5, h6, h7, hC, h9, h10, h11, h12, ⟨fun z => absurd rfl z, fun _ => Or.inr (Or.inl ⟨rfl, rfl, s3, b, hb, rfl, pk_us⟩)⟩, h14, fun z => absurd z (by decide)⟩
  · subst s1 s2 s5
    refine br_f (by decide) (br_t rfl ?_)
    by_cases hb60 : b ≤ 60
    · refine br_t (nI_le (b := 60) hb60 (by decide)) (nm_r (e' := upd a_endAt 1 (nI b)) (by rw [fa_nb (by omega)]) ?_)
      obtain ⟨cc, Fl', rfl, rfl, hcc⟩ := fh_room (a := 0) h11.1 (by decide) h11.2.2 (by rw [s3]; exact Nat.le_refl _)
      have hR := fh_HRroot h11 s3
      refine fx_cell (f := 0) hcc (by decide) (nm_r (e' := upd a_cellOf 1 (nI cc)) (by rw [fa_ns (by omega)]) ?_)
      have hPl : fr_Pl cid stt a_callRoot (fh_up PL 6 [cc]) (fun j => if j = 6 then cc else rt j) (fh_cc CC (fun _ => [])) b_sizes b_bodies sch := by
        intro p hp
        dsimp only
        rw [fh_up_n (by omega), if_neg (by omega), fh_ccn (by omega)]
        exact h12 p hp
      have hf0 : upd b_frame 1 (nI b) 0 = nI c := (pk_un (by decide)).trans s6
      have hf1 : upd b_frame 1 (nI b) 1 = nI b := pk_us
      have T0 : fb_Tr sch (fun _ => 0) b 0 [(b, 0, 0)] none (fun _ => []) := (fb_TrC sch (fun _ => 0) b).1
      have hSt : fx_St (upd a_endAt 1 (nI b)) a_typeOf [(b, 0, 0)] := ⟨pk_us, h14, trivial⟩
      have hCe : fx_Ce (upd a_cellOf 1 (nI cc)) (fun x => if x = cc then [] else kd x) (upd a_fieldOf cc (nI 0)) ((fun j => if j = 6 then cc else rt j) 6) [(b, 0, 0)] := ⟨⟨cc, pk_us, Or.inl ⟨rfl, (if_pos rfl).symm⟩⟩, trivial⟩
      refine fx_next (s := 0) (stk := [(b, 0, 0)]) (Q := fx_Ce (upd a_cellOf 1 (nI cc)) (fun x => if x = cc then [] else kd x) (upd a_fieldOf cc (nI 0)) ((fun j => if j = 6 then cc else rt j) 6)) (f_packEnd := -1) h5 hb60 (fun x r h => h.2) T0 hSt hCe (fun stk' t1 t2 t3 t4 => ?_)
      have ce1 : upd a_cellOf 1 (nI cc) 1 = nI ((fun j => if j = 6 then cc else rt j) 6) := by rw [pk_us]; dsimp only; rw [if_pos rfl]
      have HY : ∀ postY : Int32 → SY → Prop, wY_receive_78 postY 1 (nI o) (lN t) (nI cp) g_lost (nI 2) g_taken 0 g_at g_there g_source g_varint g_found b_kinds b_extras b_state b_due b_placeOf b_used b_bodies b_sizes b_ended (upd b_frame 1 (nI b)) → wpY_receive postY (g_begun, nI o, lN t, nI cp, g_lost, 1, g_taken, 0, g_at, g_there, g_source, g_varint, g_found, b_kinds, b_extras, b_state, b_due, b_placeOf, b_used, b_bodies, b_sizes, b_ended, b_frame) (nI b) := fun postY K => fr_Yr (g := 1) (b := b) (by decide) hb (fun _ z => absurd z (by omega)) (fun _ => br_t (by decide) K)
      refine br_t rfl (br_f (by decide) ?_)
      match stk', t1, t2, t3, t4 with
      | [], t1, t2, t3, t4 =>
        refine br_t (by decide) ?_
        have hsz : b = 0 := by
          rcases (fb_W h5 t1).1 with ⟨_, h⟩ | ⟨h, _⟩ | ⟨_, _, _, h, _⟩ | ⟨_, _, _, _, _, _, h, _⟩
          · omega
          · cases h
          · cases h
          · cases h
        subst hsz
        refine fr_fe (k := k) (G := fun postY => wpY_receive postY (g_begun, nI o, lN t, nI cp, g_lost, 1, g_taken, 0, g_at, g_there, g_source, g_varint, g_found, b_kinds, b_extras, b_state, b_due, b_placeOf, b_used, b_bodies, b_sizes, b_ended, b_frame) (nI 0)) (B := fun _ => 0) (sz := 0) (c := c) (g_taken := g_taken) (by decide) s4 h2 h3 rfl h5 h6 h7 hC h9 h10 hR hPl h14 ?_ ?_ ce1 ?_ hf0 hf1 (fun x hx => absurd hx (by omega)) HY (fun r u' z => z)
        · rw [fh_up_s]; exact List.cons_ne_nil _ _
        · rw [fh_up_s]; exact (by decide : 1 ≤ 61)
        · rw [fh_cc6]; exact t1
      | (e, ty, pa) :: r, t1, t2, t3, t4 =>
        have he := t4 e ty pa r rfl
        have hes := (fb_WStop (fb_W h5 t1).1).2.1
        refine br_f (nI_nle (by simp) (by have := (fb_WStop (fb_W h5 t1).1).2.2.2.2; simp; omega)) ?_
        refine HY _ (fr_Y78c (got := 2) (sz := b) (g_fault := 0) rfl (by decide) hf1 hb60 (Or.inr (by omega)) ⟨rfl, ?_⟩)
        show fr_R (k + 5) 1 (nI o) (nI (fc_pw cid stt)) (nI t) (nI cp) g_lost (a_next cc) 2 (g_taken + 1) 0 (nI c) (nI 0) (nI ((e, ty, pa) :: r).length) (-1) 0 0 f_entry f_number 0 a_schema a_callId a_callState a_deadline a_callRoot a_placeOf a_wheel a_wheelEnd a_later a_sooner b_ended (upd a_next cc (-1)) (upd a_first cc (-1)) a_last (upd a_fieldOf cc (nI 0)) (vp_updL a_val cc 0) (upd a_endAt 1 (nI b)) a_typeOf (upd a_cellOf 1 (nI cc)) 1 (nI o) (lN t) (nI cp) g_lost (nI 2) (g_taken + 1) 0 g_at g_there g_source g_varint g_found b_kinds b_extras b_state b_due b_placeOf b_used b_bodies b_sizes b_ended (upd b_frame 1 (nI b))
        refine ⟨o, t, cp, sch, cid, stt, dl, WL, _, Fl', fh_up PL 6 [cc], _, fh_cc CC (fun _ => []), ⟨rfl, rfl, rfl, rfl, rfl, rfl, rfl, rfl, rfl, rfl, rfl⟩, by omega, h3, by rw [if_pos rfl], h5, h6, h7, hC, h9, h10, hR, hPl, ⟨fun z => absurd rfl z, fun _ => Or.inr (Or.inr ⟨c, fun _ => 0, b, 0, 0, (e, ty, pa) :: r, none, s4, rfl, hf0, hb60, by omega, hf1, fun i hi => absurd hi (by omega), rfl, rfl, ⟨?_, rfl, t2, Or.inr ⟨e, ty, pa, r, rfl, Or.inl ⟨rfl, rfl, rfl, 0, rfl, he, rfl, by decide, fun j hj => absurd hj (by omega), rfl⟩⟩⟩, hR, ?_, ?_, t3, ce1⟩)⟩, h14, fun z => absurd z (by decide)⟩
        · rw [fh_cc6]; exact t1
        · rw [fh_up_s]; exact List.cons_ne_nil _ _
        · rw [fh_up_s]; exact Nat.le_refl _
    · refine br_f (nI_ge (a := 60) (by omega) (by omega)) (br_f (by decide) ?_)
      refine fr_die (k := k) (f := 1) (g_taken := g_taken) (G := fun postY => wpY_receive postY (g_begun, nI o, lN t, nI cp, g_lost, 1, g_taken, 0, g_at, g_there, g_source, g_varint, g_found, b_kinds, b_extras, b_state, b_due, b_placeOf, b_used, b_bodies, b_sizes, b_ended, b_frame) (nI b)) (b_frame := upd b_frame 1 (nI b)) (g_got := nI 2) (by decide) (by decide) h2 h3 rfl h5 h6 h7 hC h9 h10 h11 h12 h14 (Or.inl ⟨by decide, s3⟩) (fun postY K => fr_Yr (g := 1) (b := b) (by decide) hb (fun _ _ => br_t (by decide) (fr_Y78d (n := o + 1) (by decide) K)) (fun z => absurd z (by omega))) (fun u' z => z)
  · have hn2 := fx_MoS s10.2.2.2
    have hn0 : ¬ f_state = 0 := fun z => by rw [z] at hn2; exact hn2 (by decide)
    have hn1 : ¬ f_state = 1 := fun z => by rw [z] at hn2; exact hn2 (by decide)
    subst s8 s9 s2
    refine br_f hn0 (br_f hn1 (nm_r (nI_1 a) ?_))
    obtain ⟨B', hB1, hB2⟩ : ∃ B' : Nat → Int32, B' a = nI b ∧ ∀ i, i < a → B i = B' i := ⟨fun i => if i = a then nI b else B i, if_pos rfl, fun i hi => (if_neg (by omega)).symm⟩
    have hF' := fx_FmB s10 hB2
    have fxb : ∀ post' : Int32 → SX → Prop, fx_K0 post' 1 (nI o) (nI (fc_pw cid stt)) (nI t) (nI cp) g_lost (g_taken + 1) 0 (nI c) a_schema a_callId a_callState a_deadline a_callRoot a_placeOf a_wheel a_wheelEnd a_later a_sooner b_ended sch B' sz a PL rt CC → fx_Kf post' 1 (nI o) (nI (fc_pw cid stt)) (nI t) (nI cp) g_lost (g_taken + 1) 0 (nI c) a_schema a_callId a_callState a_deadline a_callRoot a_placeOf a_wheel a_wheelEnd a_later a_sooner b_ended f_free a_next a_first a_last a_fieldOf a_val a_endAt a_typeOf a_cellOf sch B' sz a → wpX_body post' (1, nI o, nI (fc_pw cid stt), nI t, nI cp, g_lost, f_free, f_state, g_taken + 1, 0, nI c, nI (a + 1), f_level, f_packEnd, f_shift, f_need, f_entry, f_number, f_acc, a_schema, a_callId, a_callState, a_deadline, a_callRoot, a_placeOf, a_wheel, a_wheelEnd, a_later, a_sooner, b_ended, a_next, a_first, a_last, a_fieldOf, a_val, a_endAt, a_typeOf, a_cellOf) (nI b) := by
      intro post' k0 kf
      have := fx_body (post := post') h5 s4 h6 (by omega) hF' s11 h14 k0 kf
      rw [hB1] at this
      exact this
    have hbf0 : upd b_frame (a + 2) (nI b) 0 = nI c := (pk_un (by omega)).trans s3
    have hbf1 : upd b_frame (a + 2) (nI b) 1 = nI sz := (pk_un (by omega)).trans s6
    have hbB : ∀ i, i < a + 1 → upd b_frame (a + 2) (nI b) (2 + i) = B' i ∧ vp_nar .short (B' i) = B' i := by
      intro i hi
      by_cases e : i = a
      · subst e
        rw [hB1, Nat.add_comm 2 i, pk_us]
        exact ⟨rfl, fa_ns' (by omega)⟩
      · rw [pk_un (by omega), ← hB2 i (by omega)]
        exact s7 i (by omega)
    have hBy : fy_By (-1) b_bodies (upd b_frame (a + 2) (nI b)) B' (a + 1) := ⟨by omega, Or.inl ⟨rfl, fun i hi => (hbB i hi).1⟩⟩
    have HY : ∀ r : Int32, fy_Ck sch B' sz (a + 1) r → ∃ at' vr fd, ∀ postY : Int32 → SY → Prop, wY_receive_78 postY 1 (nI o) (lN t) (nI cp) g_lost (nI (a + 1 + 2)) g_taken r at' (nI (a + 1)) (-1) vr fd b_kinds b_extras b_state b_due b_placeOf b_used b_bodies b_sizes b_ended (upd b_frame (a + 2) (nI b)) → wpY_receive postY (g_begun, nI o, lN t, nI cp, g_lost, nI (a + 2), g_taken, 0, g_at, g_there, g_source, g_varint, g_found, b_kinds, b_extras, b_state, b_due, b_placeOf, b_used, b_bodies, b_sizes, b_ended, b_frame) (nI b) := by
      intro r hck
      obtain ⟨at', vr, fd, H⟩ := fr_Yck (g_begun := 1) (g_opened := nI o) (g_now := lN t) (g_endings := nI cp) (g_lost := g_lost) (g_taken := g_taken) (g_fault := 0) (g_at := g_at) (g_there := g_there) (g_source := g_source) (g_varint := g_varint) (g_found := g_found) (b_state := b_state) (b_due := b_due) (b_placeOf := b_placeOf) (b_used := b_used) (b_sizes := b_sizes) (b_ended := b_ended) hck (by omega) (by omega) h7 hBy hbf1
      exact ⟨at', vr, fd, fun postY K => fr_Yr (g := a + 2) (b := b) (by omega) hb (fun z => absurd z (by omega)) (fun _ => H postY K)⟩
    refine fxb _ ?_ ?_
    · intro s' stk' pk' C' st lv pe sh nd en nu ac ea ta ce nx fi la fo va fr kd' Fl' PL' q1 q2 q3 q4 q5
      obtain ⟨at', vr, fd, HZ⟩ := HY 0 q5
      obtain ⟨w1, w2⟩ := fb_W h5 q1.1
      have hst := fx_MoS q1.2.2.2
      have hPl : fr_Pl cid stt a_callRoot PL' rt (fh_cc CC C') b_sizes b_bodies sch := by
        intro p hp
        rw [q3 p hp, fh_ccn (by omega)]
        exact h12 p hp
      refine br_t rfl (br_f hst ?_)
      match stk', q1, q2, w1, w2 with
      | [], q1, q2, w1, w2 =>
        obtain ⟨t1, rfl, t2, hM⟩ := q1
        refine br_t (by decide) ?_
        have hs : pk' = none ∧ a + 1 = s' := by
          rcases hM with ⟨_, m1, _, m2⟩ | ⟨_, _, _, _, h, _⟩
          · exact ⟨m1, m2⟩
          · cases h
        have hsz : s' = sz := by
          rcases w1 with ⟨_, h⟩ | ⟨h, _⟩ | ⟨_, _, _, h, _⟩ | ⟨_, _, _, _, _, _, h, _⟩
          · exact h
          · cases h
          · cases h
          · cases h
        obtain ⟨hs1, hs2⟩ := hs
        subst hs1 hsz
        subst hs2
        refine fr_fe (k := k) (G := fun postY => wpY_receive postY (g_begun, nI o, lN t, nI cp, g_lost, nI (a + 2), g_taken, 0, g_at, g_there, g_source, g_varint, g_found, b_kinds, b_extras, b_state, b_due, b_placeOf, b_used, b_bodies, b_sizes, b_ended, b_frame) (nI b)) (B := B') (sz := a + 1) (c := c) (g_taken := g_taken) s4 s1 h2 h3 rfl h5 h6 h7 hC h9 h10 q2.1 hPl q4 q2.2.1 ?_ q2.2.2.2.2 ?_ hbf0 hbf1 hbB HZ (fun r u' z => z)
        · have := q2.2.2.1; omega
        · rw [fh_cc6]; exact t1
      | (e, ty, pa) :: r, q1, q2, w1, w2 =>
        have hlt := fx_MoL q1.2.2.2 w2
        obtain ⟨x1, x2, x3, x4, x5⟩ := fb_WStop w1
        have hlv := q1.2.1
        subst hlv
        refine br_f (nI_nle (by simp) (by simp; omega)) ?_
        refine HZ _ (fr_Y78c (got := a + 1 + 2) (sz := sz) (g_fault := 0) rfl (by omega) hbf1 s4 (Or.inr (by omega)) ⟨rfl, ?_⟩)
        show fr_R (k + 5) 1 (nI o) (nI (fc_pw cid stt)) (nI t) (nI cp) g_lost fr st (g_taken + 1) 0 (nI c) (nI (a + 1)) (nI ((e, ty, pa) :: r).length) pe sh nd en nu ac a_schema a_callId a_callState a_deadline a_callRoot a_placeOf a_wheel a_wheelEnd a_later a_sooner b_ended nx fi la fo va ea ta ce 1 (nI o) (lN t) (nI cp) g_lost (nI (a + 1 + 2)) (g_taken + 1) 0 at' (nI (a + 1)) (-1) vr fd b_kinds b_extras b_state b_due b_placeOf b_used b_bodies b_sizes b_ended (upd b_frame (a + 2) (nI b))
        refine ⟨o, t, cp, sch, cid, stt, dl, WL, kd', Fl', PL', rt, fh_cc CC C', ⟨rfl, rfl, rfl, rfl, rfl, rfl, rfl, rfl, rfl, rfl, rfl⟩, by omega, h3, by rw [if_pos rfl], h5, h6, h7, hC, h9, h10, q2.1, hPl, ⟨fun z => absurd rfl z, fun _ => Or.inr (Or.inr ⟨c, B', sz, a + 1, s', (e, ty, pa) :: r, pk', s1, rfl, hbf0, s4, by omega, hbf1, hbB, rfl, rfl, ?_, q2⟩)⟩, q4, fun z => absurd z (by decide)⟩
        rw [fh_cc6]; exact q1
    · intro f st lv pe sh nd en nu ac f1 f2 f3 hck
      obtain ⟨at', vr, fd, HZ⟩ := HY (nI f) hck
      refine br_f (nI_ne0 f1 (by omega)) ?_
      refine fr_die (k := k) (f := f) (g_taken := g_taken) (G := fun postY => wpY_receive postY (g_begun, nI o, lN t, nI cp, g_lost, nI (a + 2), g_taken, 0, g_at, g_there, g_source, g_varint, g_found, b_kinds, b_extras, b_state, b_due, b_placeOf, b_used, b_bodies, b_sizes, b_ended, b_frame) (nI b)) (b_frame := upd b_frame (a + 2) (nI b)) (g_got := nI (a + 1 + 2)) (g_at := at') (g_there := nI (a + 1)) (g_source := -1) (g_varint := vr) (g_found := fd) f1 f2 h2 h3 rfl h5 h6 h7 hC h9 h10 s11.1 h12 h14 (Or.inr ⟨f3, s11.2.1, s11.2.2.2.2⟩) (fun postY K => HZ postY (fr_Y78d (n := o + 1) (nI_ne0 f1 (by omega)) K)) (fun u' z => z)
end
section
/-! the constructors -/
section
variable {f_begun f_opened f_waiting f_time f_completions f_dropped f_free f_state f_taken f_fault f_frameCall f_at f_level f_packEnd f_shift f_need f_entry f_number : Int32} {f_acc : Int64} {a_schema a_callId a_callState a_deadline a_callRoot a_placeOf a_wheel a_wheelEnd a_later a_sooner a_done a_next a_first a_last a_fieldOf : Nat → Int32} {a_val : Nat → Int64} {a_endAt a_typeOf a_cellOf : Nat → Int32}
theorem fi_229 {post : SX → Prop} (K : ∀ wh', (∀ j, j < 32 → wh' j = -1) → post (f_begun, f_opened, f_waiting, f_time, f_completions, f_dropped, f_free, f_state, f_taken, f_fault, f_frameCall, f_at, f_level, f_packEnd, f_shift, f_need, f_entry, f_number, f_acc, a_schema, a_callId, a_callState, a_deadline, a_callRoot, a_placeOf, wh', a_wheelEnd, a_later, a_sooner, a_done, a_next, a_first, a_last, a_fieldOf, a_val, a_endAt, a_typeOf, a_cellOf)) : ∀ d i wh, i + d = 32 → (∀ j, j < i → wh j = -1) → wX_init_229 post f_begun f_opened f_waiting f_time f_completions f_dropped f_free f_state f_taken f_fault f_frameCall f_at f_level f_packEnd f_shift f_need f_entry f_number f_acc (d + 1) (nI i) a_schema a_callId a_callState a_deadline a_callRoot a_placeOf wh a_wheelEnd a_later a_sooner a_done a_next a_first a_last a_fieldOf a_val a_endAt a_typeOf a_cellOf := by
  intro d
  induction d with
  | zero =>
    intro i wh hi h
    have e : i = 32 := by omega
    subst e
    exact br_t (by decide) (K wh h)
  | succ d ih =>
    intro i wh hi h
    refine br_f (nI_ge (b := 32) (by omega) (by decide)) (And.intro (vp_in_nI (by omega) (by decide)) (nm_r (e' := upd wh i (-1)) (by rw [nI_clamp (by omega), fa_mb]) (nm_r (nI_1 i) (ih (i + 1) _ (by omega) (fun j hj => ?_)))))
    by_cases e : j = i
    · subst e; exact pk_us
    · rw [pk_un e]; exact h j (by omega)
theorem fi_207 {post : SX → Prop} (K : ∀ pl', (∀ j, j < 200 → pl' j = -1) → ∃ n, wX_init_229 post f_begun f_opened f_waiting f_time f_completions f_dropped f_free f_state f_taken f_fault f_frameCall f_at f_level f_packEnd f_shift f_need f_entry f_number f_acc n 0 a_schema a_callId a_callState a_deadline a_callRoot pl' a_wheel a_wheelEnd a_later a_sooner a_done a_next a_first a_last a_fieldOf a_val a_endAt a_typeOf a_cellOf) : ∀ d i pl, i + d = 200 → (∀ j, j < i → pl j = -1) → wX_init_207 post f_begun f_opened f_waiting f_time f_completions f_dropped f_free f_state f_taken f_fault f_frameCall f_at f_level f_packEnd f_shift f_need f_entry f_number f_acc (d + 1) (nI i) a_schema a_callId a_callState a_deadline a_callRoot pl a_wheel a_wheelEnd a_later a_sooner a_done a_next a_first a_last a_fieldOf a_val a_endAt a_typeOf a_cellOf := by
  intro d
  induction d with
  | zero =>
    intro i pl hi h
    have e : i = 200 := by omega
    subst e
    exact br_t (by decide) (K pl h)
  | succ d ih =>
    intro i pl hi h
    refine br_f (nI_ge (b := 200) (by omega) (by decide)) (And.intro (vp_in_nI (by omega) (by decide)) (nm_r (e' := upd pl i (-1)) (by rw [nI_clamp (by omega), fa_mb]) (nm_r (nI_1 i) (ih (i + 1) _ (by omega) (fun j hj => ?_)))))
    by_cases e : j = i
    · subst e; exact pk_us
    · rw [pk_un e]; exact h j (by omega)
theorem fi_186 {post : SX → Prop} (K : ∀ ci', (∀ j, j < 6 → ci' j = -1) → ∃ n, wX_init_207 post f_begun f_opened f_waiting f_time f_completions f_dropped f_free f_state f_taken f_fault f_frameCall f_at f_level f_packEnd f_shift f_need f_entry f_number f_acc n 0 a_schema ci' a_callState a_deadline a_callRoot a_placeOf a_wheel a_wheelEnd a_later a_sooner a_done a_next a_first a_last a_fieldOf a_val a_endAt a_typeOf a_cellOf) : ∀ d i ci, i + d = 6 → (∀ j, j < i → ci j = -1) → wX_init_186 post f_begun f_opened f_waiting f_time f_completions f_dropped f_free f_state f_taken f_fault f_frameCall f_at f_level f_packEnd f_shift f_need f_entry f_number f_acc (d + 1) (nI i) a_schema ci a_callState a_deadline a_callRoot a_placeOf a_wheel a_wheelEnd a_later a_sooner a_done a_next a_first a_last a_fieldOf a_val a_endAt a_typeOf a_cellOf := by
  intro d
  induction d with
  | zero =>
    intro i ci hi h
    have e : i = 6 := by omega
    subst e
    exact br_t (by decide) (K ci h)
  | succ d ih =>
    intro i ci hi h
    refine br_f (nI_ge (b := 6) (by omega) (by decide)) (And.intro (vp_in_nI (by omega) (by decide)) (nm_r (e' := upd ci i (-1)) (by rw [nI_clamp (by omega), fa_ms]) (nm_r (nI_1 i) (ih (i + 1) _ (by omega) (fun j hj => ?_)))))
    by_cases e : j = i
    · subst e; exact pk_us
    · rw [pk_un e]; exact h j (by omega)
theorem fi_161 {post : SX → Prop} (K : ∀ nx', (∀ j, j < 427 → nx' j = nI (j + 1)) → ∃ n, wX_init_186 post f_begun f_opened f_waiting f_time f_completions f_dropped f_free f_state f_taken f_fault f_frameCall f_at f_level f_packEnd f_shift f_need f_entry f_number f_acc n 0 a_schema a_callId a_callState a_deadline a_callRoot a_placeOf a_wheel a_wheelEnd a_later a_sooner a_done nx' a_first a_last a_fieldOf a_val a_endAt a_typeOf a_cellOf) : ∀ d i nx, i + d = 427 → (∀ j, j < i → nx j = nI (j + 1)) → wX_init_161 post f_begun f_opened f_waiting f_time f_completions f_dropped f_free f_state f_taken f_fault f_frameCall f_at f_level f_packEnd f_shift f_need f_entry f_number f_acc (d + 1) (nI i) a_schema a_callId a_callState a_deadline a_callRoot a_placeOf a_wheel a_wheelEnd a_later a_sooner a_done nx a_first a_last a_fieldOf a_val a_endAt a_typeOf a_cellOf := by
  intro d
  induction d with
  | zero =>
    intro i nx hi h
    have e : i = 427 := by omega
    subst e
    exact br_t (by decide) (K nx h)
  | succ d ih =>
    intro i nx hi h
    refine br_f (nI_ge (b := 427) (by omega) (by decide)) (And.intro (vp_in_nI (by omega) (by decide)) (nm_r (e' := upd nx i (nI (i + 1))) (by rw [nI_clamp (by omega), nI_1, fa_ns (by omega)]) (nm_r (nI_1 i) (ih (i + 1) _ (by omega) (fun j hj => ?_)))))
    by_cases e : j = i
    · subst e; exact pk_us
    · rw [pk_un e]; exact h j (by omega)
end
theorem fi_FC {nx : Nat → Int32} (h : ∀ j, j < 427 → nx j = nI (j + 1)) : ∀ n a, a + n = 427 → fh_FC nx (List.range' a n) (nI a)
  | 0, a, ha => by
    have e : a = 427 := by omega
    subst e
    rfl
  | n + 1, a, ha => by
    rw [List.range'_succ]
    refine ⟨rfl, ?_⟩
    rw [h a (by omega)]
    exact fi_FC h n (a + 1) (by omega)
theorem fi_HR {nx fi la fo : Nat → Int32} {va : Nat → Int64} (h : ∀ j, j < 427 → nx j = nI (j + 1)) : fh_HR nx fi la fo va 0 (fun _ => []) (List.range 427) (fun _ => []) (fun _ => 0) (fun _ _ => []) := by
  refine ⟨⟨fun y => ?_, ?_, ?_, fun _ _ => Or.inl rfl, fun _ _ _ hc => nomatch hc⟩, fun _ _ hp => absurd rfl hp, fun _ _ => Nat.zero_le _⟩
  · simp only [fh_sum, List.count_nil]
    have h1 := List.nodup_iff_count.mp (List.nodup_range (n := 427)) y
    have h2 := List.count_pos_iff (a := y) (l := List.range 427)
    rw [List.mem_range] at h2
    split
    · rename_i hy
      have := h2.mpr hy
      omega
    · rename_i hy
      have := mt h2.mp hy
      omega
  · simp only [fh_sum, List.length_nil, List.length_range]
  · rw [List.range_eq_range']
    exact fi_FC h 427 0 rfl
theorem i_vc0 : wpX_init (fun u => wpY_init (fun v => i_Rel 0 u v)) := by
  refine ⟨428, fi_161 (fun nx' h1 => ⟨7, fi_186 (fun ci' h2 => ⟨201, fi_207 (fun pl' h3 => ⟨33, fi_229 (fun wh' h4 => ?_) 32 0 _ rfl (fun j hj => absurd hj (by omega))⟩) 200 0 _ rfl (fun j hj => absurd hj (by omega))⟩) 6 0 _ rfl (fun j hj => absurd hj (by omega))⟩) 427 0 _ rfl (fun j hj => absurd hj (by omega))⟩
  show fr_R 0 0 0 0 0 0 0 0 0 0 0 0 0 0 0 0 0 0 0 0 (fun _ => 0) ci' (fun _ => 0) (fun _ => 0) (fun _ => 0) pl' wh' (fun _ => 0) (fun _ => 0) (fun _ => 0) (fun _ => 0) nx' (fun _ => 0) (fun _ => 0) (fun _ => 0) (fun _ => 0) (fun _ => 0) (fun _ => 0) (fun _ => 0) 0 0 0 0 0 0 0 0 0 0 (-1) 0 0 (fun _ => 0) (fun _ => 0) (fun _ => 0) (fun _ => 0) (fun _ => 0) (fun _ => 0) (fun _ => 0) (fun _ => 0) (fun _ => 0) (fun _ => 0)
  refine ⟨0, 0, 0, fun _ => 0, fun _ => none, fun _ => 0, fun _ => 0, fun _ => [], fun _ => [], List.range 427, fun _ => [], fun _ => 0, fun _ _ => [], ⟨rfl, rfl, rfl, ?_, rfl, rfl, rfl, rfl, rfl, rfl, rfl⟩, Nat.le_refl _, ?_, rfl, (fun i => ⟨Nat.zero_le _, Or.inr (Nat.zero_le _)⟩), (fun i _ => rfl), (fun i _ => ⟨rfl, rfl⟩), ?_, ?_, (fun q i _ h => nomatch h), fi_HR h1, (fun p _ => ⟨fun _ => rfl, (fun i h => nomatch h)⟩), ⟨fun _ => rfl, fun _ => Or.inl ⟨rfl, rfl, rfl⟩⟩, rfl, fun _ => ⟨fun _ _ => rfl, rfl, rfl⟩⟩
  · rfl
  · rfl
  · exact ⟨by decide, (fun p hp _ => ⟨h2 p hp, rfl⟩), (fun p i _ h => nomatch h), (fun i hi => absurd hi (by omega))⟩
  · refine ⟨fun w hw => ⟨h4 w hw, fun A x h => ?_, trivial⟩, fun w p hw => ⟨fun h => (nomatch h), fun h => ?_⟩, fun w hw => List.Pairwise.nil⟩
    · simp at h
    · obtain ⟨_, ⟨i, hi⟩, _⟩ := h
      cases hi
end
