section
/-! pure rows to paste: stores, nI and lN arithmetic, masks, shifts, narrowing, branches by naturals (pk_le, pk_lt, pk_eq), loops (lp1 .. lp16: the measure of the state; rp1 ..: recursion), negatives. Take what you need -/
theorem pk_us {f : Nat → Int32} {k : Nat} {x : Int32} : upd f k x k = x := if_pos rfl
theorem pk_un {f : Nat → Int32} {k j : Nat} {x : Int32} (h : j ≠ k) : upd f k x j = f j := if_neg h
theorem pk_uLs {f : Nat → Int64} {k : Nat} {x : Int64} : vp_updL f k x k = x := if_pos rfl
theorem pk_uLn {f : Nat → Int64} {k j : Nat} {x : Int64} (h : j ≠ k) : vp_updL f k x j = f j := if_neg h
theorem pk_sub {a b : Nat} (h : b ≤ a) : nI a - nI b = nI (a - b) := by
  obtain ⟨c, rfl⟩ : ∃ c, a = c + b := ⟨a - b, by omega⟩
  rw [← nI_add, Int32.add_sub_cancel, Nat.add_sub_cancel]
theorem pk_m1 (n : Nat) : nI (n + 1) + (-1) = nI n := by
  rw [← nI_1, Int32.add_assoc, show (1 : Int32) + (-1) = 0 from rfl, Int32.add_zero]
theorem pk_mul (a b : Nat) : nI a * nI b = nI (a * b) := (Int32.ofNat_mul a b).symm
theorem pk_div {a d : Nat} (ha : a < 2 ^ 31) (h0 : 0 < d) (hd : d < 2 ^ 31) : nI a / nI d = nI (a / d) := by
  apply Int32.toInt_inj.mp
  rw [lg_idiv_nonneg (by rw [nI_toInt ha]; omega) (by rw [nI_toInt hd]; omega), nI_toInt ha, nI_toInt hd, nI_toInt (Nat.lt_of_le_of_lt (Nat.div_le_self a d) ha)]
  first | rfl | exact (Int.natCast_ediv _ _).symm
theorem pk_rem {a d : Nat} (ha : a < 2 ^ 31) (h0 : 0 < d) (hd : d < 2 ^ 31) : nI a - nI a / nI d * nI d = nI (a % d) := by
  rw [pk_div ha h0 hd, pk_mul, pk_sub (Nat.div_mul_le_self a d)]
  exact congrArg nI (by have := Nat.div_add_mod' a d; omega)
theorem pk_sub_toInt {a b : Nat} (ha : a < 2 ^ 30) (hb : b < 2 ^ 30) : (nI a - nI b).toInt = (a : Int) - b := by
  rw [Int32.toInt_sub, nI_toInt (by omega), nI_toInt (by omega)]
  exact Int.bmod_eq_of_le (by omega) (by omega)
theorem pk_sneg {a b : Nat} (hb : b < 2 ^ 30) (h : a < b) : nI a - nI b < 0 := by
  rw [Int32.lt_iff_toInt_lt, pk_sub_toInt (by omega) hb, show (0 : Int32).toInt = 0 from by decide]
  omega
theorem pk_ix (x : Int32) {n : Nat} (hn : n < 2 ^ 31) : x < 0 ∨ nI n ≤ x ∨ ∃ j : Nat, j < n ∧ x = nI j := by
  by_cases h : x < 0
  · exact Or.inl h
  · obtain ⟨j, hj, rfl⟩ := nI_of h
    by_cases h2 : j < n
    · exact Or.inr (Or.inr ⟨j, h2, rfl⟩)
    · exact Or.inr (Or.inl (nI_le (by omega) hj))
theorem pk_le {x y : Int32} {A B : Prop} (a b : Nat) (f : a ≤ b → A) (g : b < a → B) (hx : x = nI a := by rfl) (hy : y = nI b := by rfl) (ha : a < 2 ^ 31 := by omega) (hb : b < 2 ^ 31 := by omega) : (x ≤ y → A) ∧ (¬ x ≤ y → B) := by
  subst hx hy
  rw [nI_leI ha hb]
  exact ⟨f, fun z => g (by omega)⟩
theorem pk_lt {x y : Int32} {A B : Prop} (a b : Nat) (f : a < b → A) (g : b ≤ a → B) (hx : x = nI a := by rfl) (hy : y = nI b := by rfl) (ha : a < 2 ^ 31 := by omega) (hb : b < 2 ^ 31 := by omega) : (x < y → A) ∧ (¬ x < y → B) := by
  subst hx hy
  rw [nI_ltI ha hb]
  exact ⟨f, fun z => g (by omega)⟩
theorem pk_eq {x y : Int32} {A B : Prop} (a b : Nat) (f : a = b → A) (g : a ≠ b → B) (hx : x = nI a := by rfl) (hy : y = nI b := by rfl) (ha : a < 2 ^ 31 := by omega) (hb : b < 2 ^ 31 := by omega) : (x = y → A) ∧ (¬ x = y → B) := by
  subst hx hy
  rw [nI_eq ha hb]
  exact ⟨f, g⟩
theorem pk_in {x : Int32} (n N : Nat) (h : n < N) (hx : x = nI n := by rfl) (hN : N < 2 ^ 31 := by omega) : vp_in x N := by
  subst hx
  exact vp_in_nI h hN
theorem pk_cl {x : Int32} (n : Nat) (hx : x = nI n := by rfl) (h : n < 2 ^ 31 := by omega) : x.toNatClampNeg = n := by
  subst hx
  exact nI_clamp h
theorem pk_tn {n : Nat} (h : n < 2 ^ 32) : (nI n).toBitVec.toNat = n := Nat.mod_eq_of_lt h
theorem pk_and (x : Int32) {m : Int32} (k : Nat) (hm : m.toBitVec.toNat = 2 ^ k - 1) : x &&& m = nI (x.toBitVec.toNat % 2 ^ k) := by
  apply Int32.toBitVec_inj.mp
  apply BitVec.eq_of_toNat_eq
  rw [Int32.toBitVec_and, BitVec.toNat_and, hm, Nat.and_two_pow_sub_one_eq_mod]
  show _ = (BitVec.ofNat 32 _).toNat
  rw [BitVec.toNat_ofNat]
  exact (Nat.mod_eq_of_lt (Nat.lt_of_le_of_lt (Nat.mod_le _ _) x.toBitVec.isLt)).symm
theorem pk_andN {n : Nat} (h : n < 2 ^ 32) {m : Int32} (k : Nat) (hm : m.toBitVec.toNat = 2 ^ k - 1) : nI n &&& m = nI (n % 2 ^ k) := by
  rw [pk_and _ k hm, pk_tn h]
theorem pk_andE (x : Int32) {m : Int32} (k : Nat) (hm : m.toBitVec.toNat = 2 ^ k - 1) : ∃ j : Nat, j < 2 ^ k ∧ x &&& m = nI j := ⟨_, Nat.mod_lt _ (Nat.two_pow_pos k), pk_and x k hm⟩
theorem pk_andIn (x : Int32) {m : Int32} (k : Nat) (hm : m.toBitVec.toNat = 2 ^ k - 1) (hk : k ≤ 30) : vp_in (x &&& m) (2 ^ k) := by
  obtain ⟨j, hj, e⟩ := pk_andE x k hm
  rw [e]
  exact vp_in_nI hj (Nat.lt_of_le_of_lt (Nat.pow_le_pow_right (by decide) hk) (by decide))
theorem pk_shl (a s : Int32) (k : Nat) (hs : (s.toBitVec.smod 32).toNat = k) : (a <<< s).toBitVec.toNat = a.toBitVec.toNat * 2 ^ k % 2 ^ 32 := by
  show (a.toBitVec <<< (s.toBitVec.smod 32).toNat).toNat = _
  rw [hs, BitVec.toNat_shiftLeft, Nat.shiftLeft_eq]
theorem pk_shlN {n : Nat} (s : Int32) (k : Nat) (hs : (s.toBitVec.smod 32).toNat = k) (h : n * 2 ^ k < 2 ^ 32) : nI n <<< s = nI (n * 2 ^ k) := by
  apply Int32.toBitVec_inj.mp
  apply BitVec.eq_of_toNat_eq
  have hn : n < 2 ^ 32 := Nat.lt_of_le_of_lt (Nat.le_mul_of_pos_right n (Nat.two_pow_pos k)) h
  rw [pk_shl _ _ k hs, pk_tn hn, pk_tn h, Nat.mod_eq_of_lt h]
theorem pk_shr (a s : Int32) (k : Nat) (hs : (s.toBitVec.smod 32).toNat = k) : (a >>> s).toInt = a.toInt >>> k := by
  show (a.toBitVec.sshiftRight (s.toBitVec.smod 32).toNat).toInt = _
  rw [hs, BitVec.toInt_sshiftRight]
  rfl
theorem pk_shrN {n : Nat} (h : n < 2 ^ 31) (s : Int32) (k : Nat) (hs : (s.toBitVec.smod 32).toNat = k) : nI n >>> s = nI (n / 2 ^ k) := by
  apply Int32.toInt_inj.mp
  have h2 : n / 2 ^ k ≤ n := Nat.div_le_self _ _
  rw [pk_shr _ _ k hs, nI_toInt h, nI_toInt (by omega), Int.shiftRight_eq_div_pow]
  rfl
theorem pk_ushr (x s : Int32) (k : Nat) (hs : ((s.toUInt32 &&& Int32.toUInt32 31).toBitVec % 32).toNat = k) : (x.toUInt32 >>> (s.toUInt32 &&& Int32.toUInt32 31)).toInt32.toBitVec.toNat = x.toBitVec.toNat / 2 ^ k := by
  have e : (x.toUInt32 >>> (s.toUInt32 &&& Int32.toUInt32 31)).toInt32.toBitVec = x.toBitVec >>> k := by
    rw [← hs]
    exact UInt32.toBitVec_shiftRight _ _
  rw [e, BitVec.toNat_ushiftRight, Nat.shiftRight_eq_div_pow]
theorem pk_ushrN {n : Nat} (hn : n < 2 ^ 32) (s : Int32) (k : Nat) (hs : ((s.toUInt32 &&& Int32.toUInt32 31).toBitVec % 32).toNat = k) : ((nI n).toUInt32 >>> (s.toUInt32 &&& Int32.toUInt32 31)).toInt32 = nI (n / 2 ^ k) := by
  apply Int32.toBitVec_inj.mp
  apply BitVec.eq_of_toNat_eq
  rw [pk_ushr _ s k hs, pk_tn hn, pk_tn (Nat.lt_of_le_of_lt (Nat.div_le_self _ _) hn)]
theorem pk_nb (z : Int32) : narrow .byte (.int z.toInt8.toInt32) = .int z.toInt8.toInt32 := congrArg Value.int (by simp)
theorem pk_ns (z : Int32) : narrow .short (.int z.toInt16.toInt32) = .int z.toInt16.toInt32 := congrArg Value.int (by simp)
theorem pk_fb (r : Int32) : fits .byte (.int r.toInt8.toInt32) = true := by
  have ⟨a, b⟩ := lg_i2b_range r
  have h1 : (-128 : Int32).toInt = -128 := by decide
  have h2 : (127 : Int32).toInt = 127 := by decide
  simp only [fits, Bool.and_eq_true, decide_eq_true_eq, Int32.le_iff_toInt_le, h1, h2]
  omega
theorem pk_fs (r : Int32) : fits .short (.int r.toInt16.toInt32) = true := by
  have ⟨a, b⟩ := lg_i2s_range r
  have h1 : (-32768 : Int32).toInt = -32768 := by decide
  have h2 : (32767 : Int32).toInt = 32767 := by decide
  simp only [fits, Bool.and_eq_true, decide_eq_true_eq, Int32.le_iff_toInt_le, h1, h2]
  omega
theorem pk_charN {q : Nat} (hq : q < 65536) : narrow .char (.int (nI q)) = .int (nI q) ∧ fits .char (.int (nI q)) = true := by
  constructor
  · have e : (nI q).toUInt32.toUInt16.toUInt32.toInt32 = nI q := by
      apply Int32.toBitVec_inj.mp
      apply BitVec.eq_of_toNat_eq
      show (nI q).toUInt32.toUInt16.toUInt32.toNat = q % 2 ^ 32
      rw [UInt16.toNat_toUInt32, UInt32.toNat_toUInt16, show (nI q).toUInt32.toNat = q % 2 ^ 32 from rfl]
      omega
    exact congrArg Value.int e
  · have a : (0 : Int32) ≤ nI q := nI_pos' (by omega)
    have b : nI q ≤ 65535 := nI_le (b := 65535) (by omega) (by decide)
    show (decide ((0 : Int32) ≤ nI q) && decide (nI q ≤ 65535)) = true
    rw [decide_eq_true a, decide_eq_true b]
    rfl
theorem pk_char (x : Int32) : (x.toUInt32 % 65536).toInt32 = nI (x.toBitVec.toNat % 65536) := by
  apply Int32.toBitVec_inj.mp
  apply BitVec.eq_of_toNat_eq
  rw [pk_tn (by omega)]
  show (x.toUInt32 % 65536).toNat = _
  rw [UInt32.toNat_mod]
  rfl
theorem pk_nc (x : Int32) : narrow .char (.int (x.toUInt32 % 65536).toInt32) = .int (x.toUInt32 % 65536).toInt32 := by
  rw [pk_char]
  exact (pk_charN (Nat.mod_lt _ (by decide))).1
theorem pk_fc (x : Int32) : fits .char (.int (x.toUInt32 % 65536).toInt32) = true := by
  rw [pk_char]
  exact (pk_charN (Nat.mod_lt _ (by decide))).2
theorem pk_vb (z : Int32) : vp_nar .byte z.toInt8.toInt32 = z.toInt8.toInt32 := by rw [vp_nar_byte]; simp
theorem pk_vs (z : Int32) : vp_nar .short z.toInt16.toInt32 = z.toInt16.toInt32 := by rw [vp_nar_short]; simp
theorem pk_vc (z : Int32) : vp_nar .char (z.toUInt32 % 65536).toInt32 = (z.toUInt32 % 65536).toInt32 := Value.int.inj (pk_nc z)
theorem pk_lT {n : Nat} (h : n < 2 ^ 63) : (lN n).toInt = (n : Int) := lg_ofNat_toInt h
theorem pk_lLT {a b : Nat} (ha : a < 2 ^ 63) (hb : b < 2 ^ 63) : lN a < lN b ↔ a < b := by
  rw [Int64.lt_iff_toInt_lt, pk_lT ha, pk_lT hb]; omega
theorem pk_lLE {a b : Nat} (ha : a < 2 ^ 63) (hb : b < 2 ^ 63) : lN a ≤ lN b ↔ a ≤ b := by
  rw [Int64.le_iff_toInt_le, pk_lT ha, pk_lT hb]; omega
theorem pk_lEQ {a b : Nat} (ha : a < 2 ^ 63) (hb : b < 2 ^ 63) : lN a = lN b ↔ a = b := by
  rw [← Int64.toInt_inj, pk_lT ha, pk_lT hb]; omega
theorem pk_lOf {x : Int64} (h : ¬ x < 0) : ∃ k : Nat, k < 2 ^ 63 ∧ x = lN k := by
  rw [Int64.lt_iff_toInt_lt] at h
  have h0 : (0 : Int64).toInt = 0 := by decide
  have hx := Int64.toInt_lt x
  refine ⟨x.toInt.toNat, by omega, Int64.toInt_inj.mp ?_⟩
  rw [pk_lT (by omega)]
  omega
theorem pk_lDiv {a b : Nat} (ha : a < 2 ^ 63) (h0 : 0 < b) (hb : b < 2 ^ 63) : lN a / lN b = lN (a / b) := by
  apply Int64.toInt_inj.mp
  rw [lg_ldiv_nonneg (by rw [pk_lT ha]; omega) (by rw [pk_lT hb]; omega), pk_lT ha, pk_lT hb, pk_lT (Nat.lt_of_le_of_lt (Nat.div_le_self a b) ha)]
  rfl
theorem pk_lRem {a b : Nat} (ha : a < 2 ^ 63) (h0 : 0 < b) (hb : b < 2 ^ 63) : lN a - lN a / lN b * lN b = lN (a % b) := by
  rw [pk_lDiv ha h0 hb, lN_mul, lN_sub (Nat.div_mul_le_self a b)]
  exact congrArg lN (by have := Nat.div_add_mod' a b; omega)
theorem pk_loop {σ : Type} (W : Nat → Nat → σ → Prop) (I : Nat → σ → Prop) (e i0 : Nat) (s : σ) (hi : i0 ≤ e) (h0 : I i0 s) (hx : ∀ n s, I e s → W (n + 1) e s)
    (hs : ∀ n i s, i < e → I i s → (∀ s', I (i + 1) s' → W n (i + 1) s') → W (n + 1) i s) : ∃ n, W n i0 s :=
  ⟨e + 1, loop_i W I e hx hs (e + 1) i0 s hi (by omega) h0⟩
theorem pk_loopD {σ : Type} (W : Nat → Nat → σ → Prop) (I : Nat → σ → Prop) (hx : ∀ n s, I 0 s → W (n + 1) 0 s)
    (hs : ∀ n i s, I (i + 1) s → (∀ s', I i s' → W n i s') → W (n + 1) (i + 1) s) : ∀ (e : Nat) (s : σ), I e s → W (e + 1) e s := by
  intro e
  induction e with
  | zero => exact fun s h => hx 0 s h
  | succ e ih => exact fun s h => hs (e + 1) e s h (fun s' h' => ih s' h')
theorem lp1 {A1 : Type} (W : Nat → A1 → Prop) (I : A1 → Prop) (μ : A1 → Nat) (hs : ∀ (n : Nat) (a1 : A1), I a1 → (∀ (b1 : A1), I b1 → μ b1 < μ a1 → W n b1) → W (n + 1) a1) (a1 : A1) (h : I a1) : ∃ n, W n a1 :=
  loop_m (σ := A1) (fun n s => W n s) (fun s => I s) (fun s => μ s) (fun n s hI hk => hs n s hI (fun b1 h9 hm => hk b1 h9 hm)) a1 h
theorem lp2 {A1 A2 : Type} (W : Nat → A1 → A2 → Prop) (I : A1 → A2 → Prop) (μ : A1 → A2 → Nat) (hs : ∀ (n : Nat) (a1 : A1) (a2 : A2), I a1 a2 → (∀ (b1 : A1) (b2 : A2), I b1 b2 → μ b1 b2 < μ a1 a2 → W n b1 b2) → W (n + 1) a1 a2) (a1 : A1) (a2 : A2) (h : I a1 a2) : ∃ n, W n a1 a2 :=
  loop_m (σ := A1 × A2) (fun n s => W n s.1 s.2) (fun s => I s.1 s.2) (fun s => μ s.1 s.2) (fun n s hI hk => hs n s.1 s.2 hI (fun b1 b2 h9 hm => hk (b1, b2) h9 hm)) (a1, a2) h
theorem lp3 {A1 A2 A3 : Type} (W : Nat → A1 → A2 → A3 → Prop) (I : A1 → A2 → A3 → Prop) (μ : A1 → A2 → A3 → Nat) (hs : ∀ (n : Nat) (a1 : A1) (a2 : A2) (a3 : A3), I a1 a2 a3 → (∀ (b1 : A1) (b2 : A2) (b3 : A3), I b1 b2 b3 → μ b1 b2 b3 < μ a1 a2 a3 → W n b1 b2 b3) → W (n + 1) a1 a2 a3) (a1 : A1) (a2 : A2) (a3 : A3) (h : I a1 a2 a3) : ∃ n, W n a1 a2 a3 :=
  loop_m (σ := A1 × A2 × A3) (fun n s => W n s.1 s.2.1 s.2.2) (fun s => I s.1 s.2.1 s.2.2) (fun s => μ s.1 s.2.1 s.2.2) (fun n s hI hk => hs n s.1 s.2.1 s.2.2 hI (fun b1 b2 b3 h9 hm => hk (b1, b2, b3) h9 hm)) (a1, a2, a3) h
theorem lp4 {A1 A2 A3 A4 : Type} (W : Nat → A1 → A2 → A3 → A4 → Prop) (I : A1 → A2 → A3 → A4 → Prop) (μ : A1 → A2 → A3 → A4 → Nat) (hs : ∀ (n : Nat) (a1 : A1) (a2 : A2) (a3 : A3) (a4 : A4), I a1 a2 a3 a4 → (∀ (b1 : A1) (b2 : A2) (b3 : A3) (b4 : A4), I b1 b2 b3 b4 → μ b1 b2 b3 b4 < μ a1 a2 a3 a4 → W n b1 b2 b3 b4) → W (n + 1) a1 a2 a3 a4) (a1 : A1) (a2 : A2) (a3 : A3) (a4 : A4) (h : I a1 a2 a3 a4) : ∃ n, W n a1 a2 a3 a4 :=
  loop_m (σ := A1 × A2 × A3 × A4) (fun n s => W n s.1 s.2.1 s.2.2.1 s.2.2.2) (fun s => I s.1 s.2.1 s.2.2.1 s.2.2.2) (fun s => μ s.1 s.2.1 s.2.2.1 s.2.2.2) (fun n s hI hk => hs n s.1 s.2.1 s.2.2.1 s.2.2.2 hI (fun b1 b2 b3 b4 h9 hm => hk (b1, b2, b3, b4) h9 hm)) (a1, a2, a3, a4) h
theorem lp5 {A1 A2 A3 A4 A5 : Type} (W : Nat → A1 → A2 → A3 → A4 → A5 → Prop) (I : A1 → A2 → A3 → A4 → A5 → Prop) (μ : A1 → A2 → A3 → A4 → A5 → Nat) (hs : ∀ (n : Nat) (a1 : A1) (a2 : A2) (a3 : A3) (a4 : A4) (a5 : A5), I a1 a2 a3 a4 a5 → (∀ (b1 : A1) (b2 : A2) (b3 : A3) (b4 : A4) (b5 : A5), I b1 b2 b3 b4 b5 → μ b1 b2 b3 b4 b5 < μ a1 a2 a3 a4 a5 → W n b1 b2 b3 b4 b5) → W (n + 1) a1 a2 a3 a4 a5) (a1 : A1) (a2 : A2) (a3 : A3) (a4 : A4) (a5 : A5) (h : I a1 a2 a3 a4 a5) : ∃ n, W n a1 a2 a3 a4 a5 :=
  loop_m (σ := A1 × A2 × A3 × A4 × A5) (fun n s => W n s.1 s.2.1 s.2.2.1 s.2.2.2.1 s.2.2.2.2) (fun s => I s.1 s.2.1 s.2.2.1 s.2.2.2.1 s.2.2.2.2) (fun s => μ s.1 s.2.1 s.2.2.1 s.2.2.2.1 s.2.2.2.2) (fun n s hI hk => hs n s.1 s.2.1 s.2.2.1 s.2.2.2.1 s.2.2.2.2 hI (fun b1 b2 b3 b4 b5 h9 hm => hk (b1, b2, b3, b4, b5) h9 hm)) (a1, a2, a3, a4, a5) h
theorem lp6 {A1 A2 A3 A4 A5 A6 : Type} (W : Nat → A1 → A2 → A3 → A4 → A5 → A6 → Prop) (I : A1 → A2 → A3 → A4 → A5 → A6 → Prop) (μ : A1 → A2 → A3 → A4 → A5 → A6 → Nat) (hs : ∀ (n : Nat) (a1 : A1) (a2 : A2) (a3 : A3) (a4 : A4) (a5 : A5) (a6 : A6), I a1 a2 a3 a4 a5 a6 → (∀ (b1 : A1) (b2 : A2) (b3 : A3) (b4 : A4) (b5 : A5) (b6 : A6), I b1 b2 b3 b4 b5 b6 → μ b1 b2 b3 b4 b5 b6 < μ a1 a2 a3 a4 a5 a6 → W n b1 b2 b3 b4 b5 b6) → W (n + 1) a1 a2 a3 a4 a5 a6) (a1 : A1) (a2 : A2) (a3 : A3) (a4 : A4) (a5 : A5) (a6 : A6) (h : I a1 a2 a3 a4 a5 a6) : ∃ n, W n a1 a2 a3 a4 a5 a6 :=
  loop_m (σ := A1 × A2 × A3 × A4 × A5 × A6) (fun n s => W n s.1 s.2.1 s.2.2.1 s.2.2.2.1 s.2.2.2.2.1 s.2.2.2.2.2) (fun s => I s.1 s.2.1 s.2.2.1 s.2.2.2.1 s.2.2.2.2.1 s.2.2.2.2.2) (fun s => μ s.1 s.2.1 s.2.2.1 s.2.2.2.1 s.2.2.2.2.1 s.2.2.2.2.2) (fun n s hI hk => hs n s.1 s.2.1 s.2.2.1 s.2.2.2.1 s.2.2.2.2.1 s.2.2.2.2.2 hI (fun b1 b2 b3 b4 b5 b6 h9 hm => hk (b1, b2, b3, b4, b5, b6) h9 hm)) (a1, a2, a3, a4, a5, a6) h
theorem lp7 {A1 A2 A3 A4 A5 A6 A7 : Type} (W : Nat → A1 → A2 → A3 → A4 → A5 → A6 → A7 → Prop) (I : A1 → A2 → A3 → A4 → A5 → A6 → A7 → Prop) (μ : A1 → A2 → A3 → A4 → A5 → A6 → A7 → Nat) (hs : ∀ (n : Nat) (a1 : A1) (a2 : A2) (a3 : A3) (a4 : A4) (a5 : A5) (a6 : A6) (a7 : A7), I a1 a2 a3 a4 a5 a6 a7 → (∀ (b1 : A1) (b2 : A2) (b3 : A3) (b4 : A4) (b5 : A5) (b6 : A6) (b7 : A7), I b1 b2 b3 b4 b5 b6 b7 → μ b1 b2 b3 b4 b5 b6 b7 < μ a1 a2 a3 a4 a5 a6 a7 → W n b1 b2 b3 b4 b5 b6 b7) → W (n + 1) a1 a2 a3 a4 a5 a6 a7) (a1 : A1) (a2 : A2) (a3 : A3) (a4 : A4) (a5 : A5) (a6 : A6) (a7 : A7) (h : I a1 a2 a3 a4 a5 a6 a7) : ∃ n, W n a1 a2 a3 a4 a5 a6 a7 :=
  loop_m (σ := A1 × A2 × A3 × A4 × A5 × A6 × A7) (fun n s => W n s.1 s.2.1 s.2.2.1 s.2.2.2.1 s.2.2.2.2.1 s.2.2.2.2.2.1 s.2.2.2.2.2.2) (fun s => I s.1 s.2.1 s.2.2.1 s.2.2.2.1 s.2.2.2.2.1 s.2.2.2.2.2.1 s.2.2.2.2.2.2) (fun s => μ s.1 s.2.1 s.2.2.1 s.2.2.2.1 s.2.2.2.2.1 s.2.2.2.2.2.1 s.2.2.2.2.2.2) (fun n s hI hk => hs n s.1 s.2.1 s.2.2.1 s.2.2.2.1 s.2.2.2.2.1 s.2.2.2.2.2.1 s.2.2.2.2.2.2 hI (fun b1 b2 b3 b4 b5 b6 b7 h9 hm => hk (b1, b2, b3, b4, b5, b6, b7) h9 hm)) (a1, a2, a3, a4, a5, a6, a7) h
theorem lp8 {A1 A2 A3 A4 A5 A6 A7 A8 : Type} (W : Nat → A1 → A2 → A3 → A4 → A5 → A6 → A7 → A8 → Prop) (I : A1 → A2 → A3 → A4 → A5 → A6 → A7 → A8 → Prop) (μ : A1 → A2 → A3 → A4 → A5 → A6 → A7 → A8 → Nat) (hs : ∀ (n : Nat) (a1 : A1) (a2 : A2) (a3 : A3) (a4 : A4) (a5 : A5) (a6 : A6) (a7 : A7) (a8 : A8), I a1 a2 a3 a4 a5 a6 a7 a8 → (∀ (b1 : A1) (b2 : A2) (b3 : A3) (b4 : A4) (b5 : A5) (b6 : A6) (b7 : A7) (b8 : A8), I b1 b2 b3 b4 b5 b6 b7 b8 → μ b1 b2 b3 b4 b5 b6 b7 b8 < μ a1 a2 a3 a4 a5 a6 a7 a8 → W n b1 b2 b3 b4 b5 b6 b7 b8) → W (n + 1) a1 a2 a3 a4 a5 a6 a7 a8) (a1 : A1) (a2 : A2) (a3 : A3) (a4 : A4) (a5 : A5) (a6 : A6) (a7 : A7) (a8 : A8) (h : I a1 a2 a3 a4 a5 a6 a7 a8) : ∃ n, W n a1 a2 a3 a4 a5 a6 a7 a8 :=
  loop_m (σ := A1 × A2 × A3 × A4 × A5 × A6 × A7 × A8) (fun n s => W n s.1 s.2.1 s.2.2.1 s.2.2.2.1 s.2.2.2.2.1 s.2.2.2.2.2.1 s.2.2.2.2.2.2.1 s.2.2.2.2.2.2.2) (fun s => I s.1 s.2.1 s.2.2.1 s.2.2.2.1 s.2.2.2.2.1 s.2.2.2.2.2.1 s.2.2.2.2.2.2.1 s.2.2.2.2.2.2.2) (fun s => μ s.1 s.2.1 s.2.2.1 s.2.2.2.1 s.2.2.2.2.1 s.2.2.2.2.2.1 s.2.2.2.2.2.2.1 s.2.2.2.2.2.2.2) (fun n s hI hk => hs n s.1 s.2.1 s.2.2.1 s.2.2.2.1 s.2.2.2.2.1 s.2.2.2.2.2.1 s.2.2.2.2.2.2.1 s.2.2.2.2.2.2.2 hI (fun b1 b2 b3 b4 b5 b6 b7 b8 h9 hm => hk (b1, b2, b3, b4, b5, b6, b7, b8) h9 hm)) (a1, a2, a3, a4, a5, a6, a7, a8) h
theorem lp9 {A1 A2 A3 A4 A5 A6 A7 A8 A9 : Type} (W : Nat → A1 → A2 → A3 → A4 → A5 → A6 → A7 → A8 → A9 → Prop) (I : A1 → A2 → A3 → A4 → A5 → A6 → A7 → A8 → A9 → Prop) (μ : A1 → A2 → A3 → A4 → A5 → A6 → A7 → A8 → A9 → Nat) (hs : ∀ (n : Nat) (a1 : A1) (a2 : A2) (a3 : A3) (a4 : A4) (a5 : A5) (a6 : A6) (a7 : A7) (a8 : A8) (a9 : A9), I a1 a2 a3 a4 a5 a6 a7 a8 a9 → (∀ (b1 : A1) (b2 : A2) (b3 : A3) (b4 : A4) (b5 : A5) (b6 : A6) (b7 : A7) (b8 : A8) (b9 : A9), I b1 b2 b3 b4 b5 b6 b7 b8 b9 → μ b1 b2 b3 b4 b5 b6 b7 b8 b9 < μ a1 a2 a3 a4 a5 a6 a7 a8 a9 → W n b1 b2 b3 b4 b5 b6 b7 b8 b9) → W (n + 1) a1 a2 a3 a4 a5 a6 a7 a8 a9) (a1 : A1) (a2 : A2) (a3 : A3) (a4 : A4) (a5 : A5) (a6 : A6) (a7 : A7) (a8 : A8) (a9 : A9) (h : I a1 a2 a3 a4 a5 a6 a7 a8 a9) : ∃ n, W n a1 a2 a3 a4 a5 a6 a7 a8 a9 :=
  loop_m (σ := A1 × A2 × A3 × A4 × A5 × A6 × A7 × A8 × A9) (fun n s => W n s.1 s.2.1 s.2.2.1 s.2.2.2.1 s.2.2.2.2.1 s.2.2.2.2.2.1 s.2.2.2.2.2.2.1 s.2.2.2.2.2.2.2.1 s.2.2.2.2.2.2.2.2) (fun s => I s.1 s.2.1 s.2.2.1 s.2.2.2.1 s.2.2.2.2.1 s.2.2.2.2.2.1 s.2.2.2.2.2.2.1 s.2.2.2.2.2.2.2.1 s.2.2.2.2.2.2.2.2) (fun s => μ s.1 s.2.1 s.2.2.1 s.2.2.2.1 s.2.2.2.2.1 s.2.2.2.2.2.1 s.2.2.2.2.2.2.1 s.2.2.2.2.2.2.2.1 s.2.2.2.2.2.2.2.2) (fun n s hI hk => hs n s.1 s.2.1 s.2.2.1 s.2.2.2.1 s.2.2.2.2.1 s.2.2.2.2.2.1 s.2.2.2.2.2.2.1 s.2.2.2.2.2.2.2.1 s.2.2.2.2.2.2.2.2 hI (fun b1 b2 b3 b4 b5 b6 b7 b8 b9 h9 hm => hk (b1, b2, b3, b4, b5, b6, b7, b8, b9) h9 hm)) (a1, a2, a3, a4, a5, a6, a7, a8, a9) h
theorem lp10 {A1 A2 A3 A4 A5 A6 A7 A8 A9 A10 : Type} (W : Nat → A1 → A2 → A3 → A4 → A5 → A6 → A7 → A8 → A9 → A10 → Prop) (I : A1 → A2 → A3 → A4 → A5 → A6 → A7 → A8 → A9 → A10 → Prop) (μ : A1 → A2 → A3 → A4 → A5 → A6 → A7 → A8 → A9 → A10 → Nat) (hs : ∀ (n : Nat) (a1 : A1) (a2 : A2) (a3 : A3) (a4 : A4) (a5 : A5) (a6 : A6) (a7 : A7) (a8 : A8) (a9 : A9) (a10 : A10), I a1 a2 a3 a4 a5 a6 a7 a8 a9 a10 → (∀ (b1 : A1) (b2 : A2) (b3 : A3) (b4 : A4) (b5 : A5) (b6 : A6) (b7 : A7) (b8 : A8) (b9 : A9) (b10 : A10), I b1 b2 b3 b4 b5 b6 b7 b8 b9 b10 → μ b1 b2 b3 b4 b5 b6 b7 b8 b9 b10 < μ a1 a2 a3 a4 a5 a6 a7 a8 a9 a10 → W n b1 b2 b3 b4 b5 b6 b7 b8 b9 b10) → W (n + 1) a1 a2 a3 a4 a5 a6 a7 a8 a9 a10) (a1 : A1) (a2 : A2) (a3 : A3) (a4 : A4) (a5 : A5) (a6 : A6) (a7 : A7) (a8 : A8) (a9 : A9) (a10 : A10) (h : I a1 a2 a3 a4 a5 a6 a7 a8 a9 a10) : ∃ n, W n a1 a2 a3 a4 a5 a6 a7 a8 a9 a10 :=
  loop_m (σ := A1 × A2 × A3 × A4 × A5 × A6 × A7 × A8 × A9 × A10) (fun n s => W n s.1 s.2.1 s.2.2.1 s.2.2.2.1 s.2.2.2.2.1 s.2.2.2.2.2.1 s.2.2.2.2.2.2.1 s.2.2.2.2.2.2.2.1 s.2.2.2.2.2.2.2.2.1 s.2.2.2.2.2.2.2.2.2) (fun s => I s.1 s.2.1 s.2.2.1 s.2.2.2.1 s.2.2.2.2.1 s.2.2.2.2.2.1 s.2.2.2.2.2.2.1 s.2.2.2.2.2.2.2.1 s.2.2.2.2.2.2.2.2.1 s.2.2.2.2.2.2.2.2.2) (fun s => μ s.1 s.2.1 s.2.2.1 s.2.2.2.1 s.2.2.2.2.1 s.2.2.2.2.2.1 s.2.2.2.2.2.2.1 s.2.2.2.2.2.2.2.1 s.2.2.2.2.2.2.2.2.1 s.2.2.2.2.2.2.2.2.2) (fun n s hI hk => hs n s.1 s.2.1 s.2.2.1 s.2.2.2.1 s.2.2.2.2.1 s.2.2.2.2.2.1 s.2.2.2.2.2.2.1 s.2.2.2.2.2.2.2.1 s.2.2.2.2.2.2.2.2.1 s.2.2.2.2.2.2.2.2.2 hI (fun b1 b2 b3 b4 b5 b6 b7 b8 b9 b10 h9 hm => hk (b1, b2, b3, b4, b5, b6, b7, b8, b9, b10) h9 hm)) (a1, a2, a3, a4, a5, a6, a7, a8, a9, a10) h
theorem lp11 {A1 A2 A3 A4 A5 A6 A7 A8 A9 A10 A11 : Type} (W : Nat → A1 → A2 → A3 → A4 → A5 → A6 → A7 → A8 → A9 → A10 → A11 → Prop) (I : A1 → A2 → A3 → A4 → A5 → A6 → A7 → A8 → A9 → A10 → A11 → Prop) (μ : A1 → A2 → A3 → A4 → A5 → A6 → A7 → A8 → A9 → A10 → A11 → Nat) (hs : ∀ (n : Nat) (a1 : A1) (a2 : A2) (a3 : A3) (a4 : A4) (a5 : A5) (a6 : A6) (a7 : A7) (a8 : A8) (a9 : A9) (a10 : A10) (a11 : A11), I a1 a2 a3 a4 a5 a6 a7 a8 a9 a10 a11 → (∀ (b1 : A1) (b2 : A2) (b3 : A3) (b4 : A4) (b5 : A5) (b6 : A6) (b7 : A7) (b8 : A8) (b9 : A9) (b10 : A10) (b11 : A11), I b1 b2 b3 b4 b5 b6 b7 b8 b9 b10 b11 → μ b1 b2 b3 b4 b5 b6 b7 b8 b9 b10 b11 < μ a1 a2 a3 a4 a5 a6 a7 a8 a9 a10 a11 → W n b1 b2 b3 b4 b5 b6 b7 b8 b9 b10 b11) → W (n + 1) a1 a2 a3 a4 a5 a6 a7 a8 a9 a10 a11) (a1 : A1) (a2 : A2) (a3 : A3) (a4 : A4) (a5 : A5) (a6 : A6) (a7 : A7) (a8 : A8) (a9 : A9) (a10 : A10) (a11 : A11) (h : I a1 a2 a3 a4 a5 a6 a7 a8 a9 a10 a11) : ∃ n, W n a1 a2 a3 a4 a5 a6 a7 a8 a9 a10 a11 :=
  loop_m (σ := A1 × A2 × A3 × A4 × A5 × A6 × A7 × A8 × A9 × A10 × A11) (fun n s => W n s.1 s.2.1 s.2.2.1 s.2.2.2.1 s.2.2.2.2.1 s.2.2.2.2.2.1 s.2.2.2.2.2.2.1 s.2.2.2.2.2.2.2.1 s.2.2.2.2.2.2.2.2.1 s.2.2.2.2.2.2.2.2.2.1 s.2.2.2.2.2.2.2.2.2.2) (fun s => I s.1 s.2.1 s.2.2.1 s.2.2.2.1 s.2.2.2.2.1 s.2.2.2.2.2.1 s.2.2.2.2.2.2.1 s.2.2.2.2.2.2.2.1 s.2.2.2.2.2.2.2.2.1 s.2.2.2.2.2.2.2.2.2.1 s.2.2.2.2.2.2.2.2.2.2) (fun s => μ s.1 s.2.1 s.2.2.1 s.2.2.2.1 s.2.2.2.2.1 s.2.2.2.2.2.1 s.2.2.2.2.2.2.1 s.2.2.2.2.2.2.2.1 s.2.2.2.2.2.2.2.2.1 s.2.2.2.2.2.2.2.2.2.1 s.2.2.2.2.2.2.2.2.2.2) (fun n s hI hk => hs n s.1 s.2.1 s.2.2.1 s.2.2.2.1 s.2.2.2.2.1 s.2.2.2.2.2.1 s.2.2.2.2.2.2.1 s.2.2.2.2.2.2.2.1 s.2.2.2.2.2.2.2.2.1 s.2.2.2.2.2.2.2.2.2.1 s.2.2.2.2.2.2.2.2.2.2 hI (fun b1 b2 b3 b4 b5 b6 b7 b8 b9 b10 b11 h9 hm => hk (b1, b2, b3, b4, b5, b6, b7, b8, b9, b10, b11) h9 hm)) (a1, a2, a3, a4, a5, a6, a7, a8, a9, a10, a11) h
theorem lp12 {A1 A2 A3 A4 A5 A6 A7 A8 A9 A10 A11 A12 : Type} (W : Nat → A1 → A2 → A3 → A4 → A5 → A6 → A7 → A8 → A9 → A10 → A11 → A12 → Prop) (I : A1 → A2 → A3 → A4 → A5 → A6 → A7 → A8 → A9 → A10 → A11 → A12 → Prop) (μ : A1 → A2 → A3 → A4 → A5 → A6 → A7 → A8 → A9 → A10 → A11 → A12 → Nat) (hs : ∀ (n : Nat) (a1 : A1) (a2 : A2) (a3 : A3) (a4 : A4) (a5 : A5) (a6 : A6) (a7 : A7) (a8 : A8) (a9 : A9) (a10 : A10) (a11 : A11) (a12 : A12), I a1 a2 a3 a4 a5 a6 a7 a8 a9 a10 a11 a12 → (∀ (b1 : A1) (b2 : A2) (b3 : A3) (b4 : A4) (b5 : A5) (b6 : A6) (b7 : A7) (b8 : A8) (b9 : A9) (b10 : A10) (b11 : A11) (b12 : A12), I b1 b2 b3 b4 b5 b6 b7 b8 b9 b10 b11 b12 → μ b1 b2 b3 b4 b5 b6 b7 b8 b9 b10 b11 b12 < μ a1 a2 a3 a4 a5 a6 a7 a8 a9 a10 a11 a12 → W n b1 b2 b3 b4 b5 b6 b7 b8 b9 b10 b11 b12) → W (n + 1) a1 a2 a3 a4 a5 a6 a7 a8 a9 a10 a11 a12) (a1 : A1) (a2 : A2) (a3 : A3) (a4 : A4) (a5 : A5) (a6 : A6) (a7 : A7) (a8 : A8) (a9 : A9) (a10 : A10) (a11 : A11) (a12 : A12) (h : I a1 a2 a3 a4 a5 a6 a7 a8 a9 a10 a11 a12) : ∃ n, W n a1 a2 a3 a4 a5 a6 a7 a8 a9 a10 a11 a12 :=
  loop_m (σ := A1 × A2 × A3 × A4 × A5 × A6 × A7 × A8 × A9 × A10 × A11 × A12) (fun n s => W n s.1 s.2.1 s.2.2.1 s.2.2.2.1 s.2.2.2.2.1 s.2.2.2.2.2.1 s.2.2.2.2.2.2.1 s.2.2.2.2.2.2.2.1 s.2.2.2.2.2.2.2.2.1 s.2.2.2.2.2.2.2.2.2.1 s.2.2.2.2.2.2.2.2.2.2.1 s.2.2.2.2.2.2.2.2.2.2.2) (fun s => I s.1 s.2.1 s.2.2.1 s.2.2.2.1 s.2.2.2.2.1 s.2.2.2.2.2.1 s.2.2.2.2.2.2.1 s.2.2.2.2.2.2.2.1 s.2.2.2.2.2.2.2.2.1 s.2.2.2.2.2.2.2.2.2.1 s.2.2.2.2.2.2.2.2.2.2.1 s.2.2.2.2.2.2.2.2.2.2.2) (fun s => μ s.1 s.2.1 s.2.2.1 s.2.2.2.1 s.2.2.2.2.1 s.2.2.2.2.2.1 s.2.2.2.2.2.2.1 s.2.2.2.2.2.2.2.1 s.2.2.2.2.2.2.2.2.1 s.2.2.2.2.2.2.2.2.2.1 s.2.2.2.2.2.2.2.2.2.2.1 s.2.2.2.2.2.2.2.2.2.2.2) (fun n s hI hk => hs n s.1 s.2.1 s.2.2.1 s.2.2.2.1 s.2.2.2.2.1 s.2.2.2.2.2.1 s.2.2.2.2.2.2.1 s.2.2.2.2.2.2.2.1 s.2.2.2.2.2.2.2.2.1 s.2.2.2.2.2.2.2.2.2.1 s.2.2.2.2.2.2.2.2.2.2.1 s.2.2.2.2.2.2.2.2.2.2.2 hI (fun b1 b2 b3 b4 b5 b6 b7 b8 b9 b10 b11 b12 h9 hm => hk (b1, b2, b3, b4, b5, b6, b7, b8, b9, b10, b11, b12) h9 hm)) (a1, a2, a3, a4, a5, a6, a7, a8, a9, a10, a11, a12) h
theorem lp13 {A1 A2 A3 A4 A5 A6 A7 A8 A9 A10 A11 A12 A13 : Type} (W : Nat → A1 → A2 → A3 → A4 → A5 → A6 → A7 → A8 → A9 → A10 → A11 → A12 → A13 → Prop) (I : A1 → A2 → A3 → A4 → A5 → A6 → A7 → A8 → A9 → A10 → A11 → A12 → A13 → Prop) (μ : A1 → A2 → A3 → A4 → A5 → A6 → A7 → A8 → A9 → A10 → A11 → A12 → A13 → Nat) (hs : ∀ (n : Nat) (a1 : A1) (a2 : A2) (a3 : A3) (a4 : A4) (a5 : A5) (a6 : A6) (a7 : A7) (a8 : A8) (a9 : A9) (a10 : A10) (a11 : A11) (a12 : A12) (a13 : A13), I a1 a2 a3 a4 a5 a6 a7 a8 a9 a10 a11 a12 a13 → (∀ (b1 : A1) (b2 : A2) (b3 : A3) (b4 : A4) (b5 : A5) (b6 : A6) (b7 : A7) (b8 : A8) (b9 : A9) (b10 : A10) (b11 : A11) (b12 : A12) (b13 : A13), I b1 b2 b3 b4 b5 b6 b7 b8 b9 b10 b11 b12 b13 → μ b1 b2 b3 b4 b5 b6 b7 b8 b9 b10 b11 b12 b13 < μ a1 a2 a3 a4 a5 a6 a7 a8 a9 a10 a11 a12 a13 → W n b1 b2 b3 b4 b5 b6 b7 b8 b9 b10 b11 b12 b13) → W (n + 1) a1 a2 a3 a4 a5 a6 a7 a8 a9 a10 a11 a12 a13) (a1 : A1) (a2 : A2) (a3 : A3) (a4 : A4) (a5 : A5) (a6 : A6) (a7 : A7) (a8 : A8) (a9 : A9) (a10 : A10) (a11 : A11) (a12 : A12) (a13 : A13) (h : I a1 a2 a3 a4 a5 a6 a7 a8 a9 a10 a11 a12 a13) : ∃ n, W n a1 a2 a3 a4 a5 a6 a7 a8 a9 a10 a11 a12 a13 :=
  loop_m (σ := A1 × A2 × A3 × A4 × A5 × A6 × A7 × A8 × A9 × A10 × A11 × A12 × A13) (fun n s => W n s.1 s.2.1 s.2.2.1 s.2.2.2.1 s.2.2.2.2.1 s.2.2.2.2.2.1 s.2.2.2.2.2.2.1 s.2.2.2.2.2.2.2.1 s.2.2.2.2.2.2.2.2.1 s.2.2.2.2.2.2.2.2.2.1 s.2.2.2.2.2.2.2.2.2.2.1 s.2.2.2.2.2.2.2.2.2.2.2.1 s.2.2.2.2.2.2.2.2.2.2.2.2) (fun s => I s.1 s.2.1 s.2.2.1 s.2.2.2.1 s.2.2.2.2.1 s.2.2.2.2.2.1 s.2.2.2.2.2.2.1 s.2.2.2.2.2.2.2.1 s.2.2.2.2.2.2.2.2.1 s.2.2.2.2.2.2.2.2.2.1 s.2.2.2.2.2.2.2.2.2.2.1 s.2.2.2.2.2.2.2.2.2.2.2.1 s.2.2.2.2.2.2.2.2.2.2.2.2) (fun s => μ s.1 s.2.1 s.2.2.1 s.2.2.2.1 s.2.2.2.2.1 s.2.2.2.2.2.1 s.2.2.2.2.2.2.1 s.2.2.2.2.2.2.2.1 s.2.2.2.2.2.2.2.2.1 s.2.2.2.2.2.2.2.2.2.1 s.2.2.2.2.2.2.2.2.2.2.1 s.2.2.2.2.2.2.2.2.2.2.2.1 s.2.2.2.2.2.2.2.2.2.2.2.2) (fun n s hI hk => hs n s.1 s.2.1 s.2.2.1 s.2.2.2.1 s.2.2.2.2.1 s.2.2.2.2.2.1 s.2.2.2.2.2.2.1 s.2.2.2.2.2.2.2.1 s.2.2.2.2.2.2.2.2.1 s.2.2.2.2.2.2.2.2.2.1 s.2.2.2.2.2.2.2.2.2.2.1 s.2.2.2.2.2.2.2.2.2.2.2.1 s.2.2.2.2.2.2.2.2.2.2.2.2 hI (fun b1 b2 b3 b4 b5 b6 b7 b8 b9 b10 b11 b12 b13 h9 hm => hk (b1, b2, b3, b4, b5, b6, b7, b8, b9, b10, b11, b12, b13) h9 hm)) (a1, a2, a3, a4, a5, a6, a7, a8, a9, a10, a11, a12, a13) h
theorem lp14 {A1 A2 A3 A4 A5 A6 A7 A8 A9 A10 A11 A12 A13 A14 : Type} (W : Nat → A1 → A2 → A3 → A4 → A5 → A6 → A7 → A8 → A9 → A10 → A11 → A12 → A13 → A14 → Prop) (I : A1 → A2 → A3 → A4 → A5 → A6 → A7 → A8 → A9 → A10 → A11 → A12 → A13 → A14 → Prop) (μ : A1 → A2 → A3 → A4 → A5 → A6 → A7 → A8 → A9 → A10 → A11 → A12 → A13 → A14 → Nat) (hs : ∀ (n : Nat) (a1 : A1) (a2 : A2) (a3 : A3) (a4 : A4) (a5 : A5) (a6 : A6) (a7 : A7) (a8 : A8) (a9 : A9) (a10 : A10) (a11 : A11) (a12 : A12) (a13 : A13) (a14 : A14), I a1 a2 a3 a4 a5 a6 a7 a8 a9 a10 a11 a12 a13 a14 → (∀ (b1 : A1) (b2 : A2) (b3 : A3) (b4 : A4) (b5 : A5) (b6 : A6) (b7 : A7) (b8 : A8) (b9 : A9) (b10 : A10) (b11 : A11) (b12 : A12) (b13 : A13) (b14 : A14), I b1 b2 b3 b4 b5 b6 b7 b8 b9 b10 b11 b12 b13 b14 → μ b1 b2 b3 b4 b5 b6 b7 b8 b9 b10 b11 b12 b13 b14 < μ a1 a2 a3 a4 a5 a6 a7 a8 a9 a10 a11 a12 a13 a14 → W n b1 b2 b3 b4 b5 b6 b7 b8 b9 b10 b11 b12 b13 b14) → W (n + 1) a1 a2 a3 a4 a5 a6 a7 a8 a9 a10 a11 a12 a13 a14) (a1 : A1) (a2 : A2) (a3 : A3) (a4 : A4) (a5 : A5) (a6 : A6) (a7 : A7) (a8 : A8) (a9 : A9) (a10 : A10) (a11 : A11) (a12 : A12) (a13 : A13) (a14 : A14) (h : I a1 a2 a3 a4 a5 a6 a7 a8 a9 a10 a11 a12 a13 a14) : ∃ n, W n a1 a2 a3 a4 a5 a6 a7 a8 a9 a10 a11 a12 a13 a14 :=
  loop_m (σ := A1 × A2 × A3 × A4 × A5 × A6 × A7 × A8 × A9 × A10 × A11 × A12 × A13 × A14) (fun n s => W n s.1 s.2.1 s.2.2.1 s.2.2.2.1 s.2.2.2.2.1 s.2.2.2.2.2.1 s.2.2.2.2.2.2.1 s.2.2.2.2.2.2.2.1 s.2.2.2.2.2.2.2.2.1 s.2.2.2.2.2.2.2.2.2.1 s.2.2.2.2.2.2.2.2.2.2.1 s.2.2.2.2.2.2.2.2.2.2.2.1 s.2.2.2.2.2.2.2.2.2.2.2.2.1 s.2.2.2.2.2.2.2.2.2.2.2.2.2) (fun s => I s.1 s.2.1 s.2.2.1 s.2.2.2.1 s.2.2.2.2.1 s.2.2.2.2.2.1 s.2.2.2.2.2.2.1 s.2.2.2.2.2.2.2.1 s.2.2.2.2.2.2.2.2.1 s.2.2.2.2.2.2.2.2.2.1 s.2.2.2.2.2.2.2.2.2.2.1 s.2.2.2.2.2.2.2.2.2.2.2.1 s.2.2.2.2.2.2.2.2.2.2.2.2.1 s.2.2.2.2.2.2.2.2.2.2.2.2.2) (fun s => μ s.1 s.2.1 s.2.2.1 s.2.2.2.1 s.2.2.2.2.1 s.2.2.2.2.2.1 s.2.2.2.2.2.2.1 s.2.2.2.2.2.2.2.1 s.2.2.2.2.2.2.2.2.1 s.2.2.2.2.2.2.2.2.2.1 s.2.2.2.2.2.2.2.2.2.2.1 s.2.2.2.2.2.2.2.2.2.2.2.1 s.2.2.2.2.2.2.2.2.2.2.2.2.1 s.2.2.2.2.2.2.2.2.2.2.2.2.2) (fun n s hI hk => hs n s.1 s.2.1 s.2.2.1 s.2.2.2.1 s.2.2.2.2.1 s.2.2.2.2.2.1 s.2.2.2.2.2.2.1 s.2.2.2.2.2.2.2.1 s.2.2.2.2.2.2.2.2.1 s.2.2.2.2.2.2.2.2.2.1 s.2.2.2.2.2.2.2.2.2.2.1 s.2.2.2.2.2.2.2.2.2.2.2.1 s.2.2.2.2.2.2.2.2.2.2.2.2.1 s.2.2.2.2.2.2.2.2.2.2.2.2.2 hI (fun b1 b2 b3 b4 b5 b6 b7 b8 b9 b10 b11 b12 b13 b14 h9 hm => hk (b1, b2, b3, b4, b5, b6, b7, b8, b9, b10, b11, b12, b13, b14) h9 hm)) (a1, a2, a3, a4, a5, a6, a7, a8, a9, a10, a11, a12, a13, a14) h
theorem lp15 {A1 A2 A3 A4 A5 A6 A7 A8 A9 A10 A11 A12 A13 A14 A15 : Type} (W : Nat → A1 → A2 → A3 → A4 → A5 → A6 → A7 → A8 → A9 → A10 → A11 → A12 → A13 → A14 → A15 → Prop) (I : A1 → A2 → A3 → A4 → A5 → A6 → A7 → A8 → A9 → A10 → A11 → A12 → A13 → A14 → A15 → Prop) (μ : A1 → A2 → A3 → A4 → A5 → A6 → A7 → A8 → A9 → A10 → A11 → A12 → A13 → A14 → A15 → Nat) (hs : ∀ (n : Nat) (a1 : A1) (a2 : A2) (a3 : A3) (a4 : A4) (a5 : A5) (a6 : A6) (a7 : A7) (a8 : A8) (a9 : A9) (a10 : A10) (a11 : A11) (a12 : A12) (a13 : A13) (a14 : A14) (a15 : A15), I a1 a2 a3 a4 a5 a6 a7 a8 a9 a10 a11 a12 a13 a14 a15 → (∀ (b1 : A1) (b2 : A2) (b3 : A3) (b4 : A4) (b5 : A5) (b6 : A6) (b7 : A7) (b8 : A8) (b9 : A9) (b10 : A10) (b11 : A11) (b12 : A12) (b13 : A13) (b14 : A14) (b15 : A15), I b1 b2 b3 b4 b5 b6 b7 b8 b9 b10 b11 b12 b13 b14 b15 → μ b1 b2 b3 b4 b5 b6 b7 b8 b9 b10 b11 b12 b13 b14 b15 < μ a1 a2 a3 a4 a5 a6 a7 a8 a9 a10 a11 a12 a13 a14 a15 → W n b1 b2 b3 b4 b5 b6 b7 b8 b9 b10 b11 b12 b13 b14 b15) → W (n + 1) a1 a2 a3 a4 a5 a6 a7 a8 a9 a10 a11 a12 a13 a14 a15) (a1 : A1) (a2 : A2) (a3 : A3) (a4 : A4) (a5 : A5) (a6 : A6) (a7 : A7) (a8 : A8) (a9 : A9) (a10 : A10) (a11 : A11) (a12 : A12) (a13 : A13) (a14 : A14) (a15 : A15) (h : I a1 a2 a3 a4 a5 a6 a7 a8 a9 a10 a11 a12 a13 a14 a15) : ∃ n, W n a1 a2 a3 a4 a5 a6 a7 a8 a9 a10 a11 a12 a13 a14 a15 :=
  loop_m (σ := A1 × A2 × A3 × A4 × A5 × A6 × A7 × A8 × A9 × A10 × A11 × A12 × A13 × A14 × A15) (fun n s => W n s.1 s.2.1 s.2.2.1 s.2.2.2.1 s.2.2.2.2.1 s.2.2.2.2.2.1 s.2.2.2.2.2.2.1 s.2.2.2.2.2.2.2.1 s.2.2.2.2.2.2.2.2.1 s.2.2.2.2.2.2.2.2.2.1 s.2.2.2.2.2.2.2.2.2.2.1 s.2.2.2.2.2.2.2.2.2.2.2.1 s.2.2.2.2.2.2.2.2.2.2.2.2.1 s.2.2.2.2.2.2.2.2.2.2.2.2.2.1 s.2.2.2.2.2.2.2.2.2.2.2.2.2.2) (fun s => I s.1 s.2.1 s.2.2.1 s.2.2.2.1 s.2.2.2.2.1 s.2.2.2.2.2.1 s.2.2.2.2.2.2.1 s.2.2.2.2.2.2.2.1 s.2.2.2.2.2.2.2.2.1 s.2.2.2.2.2.2.2.2.2.1 s.2.2.2.2.2.2.2.2.2.2.1 s.2.2.2.2.2.2.2.2.2.2.2.1 s.2.2.2.2.2.2.2.2.2.2.2.2.1 s.2.2.2.2.2.2.2.2.2.2.2.2.2.1 s.2.2.2.2.2.2.2.2.2.2.2.2.2.2) (fun s => μ s.1 s.2.1 s.2.2.1 s.2.2.2.1 s.2.2.2.2.1 s.2.2.2.2.2.1 s.2.2.2.2.2.2.1 s.2.2.2.2.2.2.2.1 s.2.2.2.2.2.2.2.2.1 s.2.2.2.2.2.2.2.2.2.1 s.2.2.2.2.2.2.2.2.2.2.1 s.2.2.2.2.2.2.2.2.2.2.2.1 s.2.2.2.2.2.2.2.2.2.2.2.2.1 s.2.2.2.2.2.2.2.2.2.2.2.2.2.1 s.2.2.2.2.2.2.2.2.2.2.2.2.2.2) (fun n s hI hk => hs n s.1 s.2.1 s.2.2.1 s.2.2.2.1 s.2.2.2.2.1 s.2.2.2.2.2.1 s.2.2.2.2.2.2.1 s.2.2.2.2.2.2.2.1 s.2.2.2.2.2.2.2.2.1 s.2.2.2.2.2.2.2.2.2.1 s.2.2.2.2.2.2.2.2.2.2.1 s.2.2.2.2.2.2.2.2.2.2.2.1 s.2.2.2.2.2.2.2.2.2.2.2.2.1 s.2.2.2.2.2.2.2.2.2.2.2.2.2.1 s.2.2.2.2.2.2.2.2.2.2.2.2.2.2 hI (fun b1 b2 b3 b4 b5 b6 b7 b8 b9 b10 b11 b12 b13 b14 b15 h9 hm => hk (b1, b2, b3, b4, b5, b6, b7, b8, b9, b10, b11, b12, b13, b14, b15) h9 hm)) (a1, a2, a3, a4, a5, a6, a7, a8, a9, a10, a11, a12, a13, a14, a15) h
theorem lp16 {A1 A2 A3 A4 A5 A6 A7 A8 A9 A10 A11 A12 A13 A14 A15 A16 : Type} (W : Nat → A1 → A2 → A3 → A4 → A5 → A6 → A7 → A8 → A9 → A10 → A11 → A12 → A13 → A14 → A15 → A16 → Prop) (I : A1 → A2 → A3 → A4 → A5 → A6 → A7 → A8 → A9 → A10 → A11 → A12 → A13 → A14 → A15 → A16 → Prop) (μ : A1 → A2 → A3 → A4 → A5 → A6 → A7 → A8 → A9 → A10 → A11 → A12 → A13 → A14 → A15 → A16 → Nat) (hs : ∀ (n : Nat) (a1 : A1) (a2 : A2) (a3 : A3) (a4 : A4) (a5 : A5) (a6 : A6) (a7 : A7) (a8 : A8) (a9 : A9) (a10 : A10) (a11 : A11) (a12 : A12) (a13 : A13) (a14 : A14) (a15 : A15) (a16 : A16), I a1 a2 a3 a4 a5 a6 a7 a8 a9 a10 a11 a12 a13 a14 a15 a16 → (∀ (b1 : A1) (b2 : A2) (b3 : A3) (b4 : A4) (b5 : A5) (b6 : A6) (b7 : A7) (b8 : A8) (b9 : A9) (b10 : A10) (b11 : A11) (b12 : A12) (b13 : A13) (b14 : A14) (b15 : A15) (b16 : A16), I b1 b2 b3 b4 b5 b6 b7 b8 b9 b10 b11 b12 b13 b14 b15 b16 → μ b1 b2 b3 b4 b5 b6 b7 b8 b9 b10 b11 b12 b13 b14 b15 b16 < μ a1 a2 a3 a4 a5 a6 a7 a8 a9 a10 a11 a12 a13 a14 a15 a16 → W n b1 b2 b3 b4 b5 b6 b7 b8 b9 b10 b11 b12 b13 b14 b15 b16) → W (n + 1) a1 a2 a3 a4 a5 a6 a7 a8 a9 a10 a11 a12 a13 a14 a15 a16) (a1 : A1) (a2 : A2) (a3 : A3) (a4 : A4) (a5 : A5) (a6 : A6) (a7 : A7) (a8 : A8) (a9 : A9) (a10 : A10) (a11 : A11) (a12 : A12) (a13 : A13) (a14 : A14) (a15 : A15) (a16 : A16) (h : I a1 a2 a3 a4 a5 a6 a7 a8 a9 a10 a11 a12 a13 a14 a15 a16) : ∃ n, W n a1 a2 a3 a4 a5 a6 a7 a8 a9 a10 a11 a12 a13 a14 a15 a16 :=
  loop_m (σ := A1 × A2 × A3 × A4 × A5 × A6 × A7 × A8 × A9 × A10 × A11 × A12 × A13 × A14 × A15 × A16) (fun n s => W n s.1 s.2.1 s.2.2.1 s.2.2.2.1 s.2.2.2.2.1 s.2.2.2.2.2.1 s.2.2.2.2.2.2.1 s.2.2.2.2.2.2.2.1 s.2.2.2.2.2.2.2.2.1 s.2.2.2.2.2.2.2.2.2.1 s.2.2.2.2.2.2.2.2.2.2.1 s.2.2.2.2.2.2.2.2.2.2.2.1 s.2.2.2.2.2.2.2.2.2.2.2.2.1 s.2.2.2.2.2.2.2.2.2.2.2.2.2.1 s.2.2.2.2.2.2.2.2.2.2.2.2.2.2.1 s.2.2.2.2.2.2.2.2.2.2.2.2.2.2.2) (fun s => I s.1 s.2.1 s.2.2.1 s.2.2.2.1 s.2.2.2.2.1 s.2.2.2.2.2.1 s.2.2.2.2.2.2.1 s.2.2.2.2.2.2.2.1 s.2.2.2.2.2.2.2.2.1 s.2.2.2.2.2.2.2.2.2.1 s.2.2.2.2.2.2.2.2.2.2.1 s.2.2.2.2.2.2.2.2.2.2.2.1 s.2.2.2.2.2.2.2.2.2.2.2.2.1 s.2.2.2.2.2.2.2.2.2.2.2.2.2.1 s.2.2.2.2.2.2.2.2.2.2.2.2.2.2.1 s.2.2.2.2.2.2.2.2.2.2.2.2.2.2.2) (fun s => μ s.1 s.2.1 s.2.2.1 s.2.2.2.1 s.2.2.2.2.1 s.2.2.2.2.2.1 s.2.2.2.2.2.2.1 s.2.2.2.2.2.2.2.1 s.2.2.2.2.2.2.2.2.1 s.2.2.2.2.2.2.2.2.2.1 s.2.2.2.2.2.2.2.2.2.2.1 s.2.2.2.2.2.2.2.2.2.2.2.1 s.2.2.2.2.2.2.2.2.2.2.2.2.1 s.2.2.2.2.2.2.2.2.2.2.2.2.2.1 s.2.2.2.2.2.2.2.2.2.2.2.2.2.2.1 s.2.2.2.2.2.2.2.2.2.2.2.2.2.2.2) (fun n s hI hk => hs n s.1 s.2.1 s.2.2.1 s.2.2.2.1 s.2.2.2.2.1 s.2.2.2.2.2.1 s.2.2.2.2.2.2.1 s.2.2.2.2.2.2.2.1 s.2.2.2.2.2.2.2.2.1 s.2.2.2.2.2.2.2.2.2.1 s.2.2.2.2.2.2.2.2.2.2.1 s.2.2.2.2.2.2.2.2.2.2.2.1 s.2.2.2.2.2.2.2.2.2.2.2.2.1 s.2.2.2.2.2.2.2.2.2.2.2.2.2.1 s.2.2.2.2.2.2.2.2.2.2.2.2.2.2.1 s.2.2.2.2.2.2.2.2.2.2.2.2.2.2.2 hI (fun b1 b2 b3 b4 b5 b6 b7 b8 b9 b10 b11 b12 b13 b14 b15 b16 h9 hm => hk (b1, b2, b3, b4, b5, b6, b7, b8, b9, b10, b11, b12, b13, b14, b15, b16) h9 hm)) (a1, a2, a3, a4, a5, a6, a7, a8, a9, a10, a11, a12, a13, a14, a15, a16) h
theorem pk_least (P : Nat → Prop) (h : ∃ k, P k) : ∃ k, P k ∧ ∀ j, j < k → ¬ P j := by
  obtain ⟨k, hk⟩ := h
  induction k using Nat.strongRecOn with
  | ind k ih =>
    by_cases e : ∃ j, j < k ∧ P j
    · obtain ⟨j, hj, pj⟩ := e
      exact ih j hj pj
    · exact ⟨k, hk, fun j hj pj => e ⟨j, hj, pj⟩⟩
theorem rp1 {ρ A1 : Type} (W : Nat → (ρ → Prop) → A1 → Prop) (ok : A1 → Prop) (μ : A1 → Nat) (val : A1 → ρ)
    (hs : ∀ (d : Nat) (post : ρ → Prop) (a1 : A1), ok a1 → post (val a1) → (∀ (post' : ρ → Prop) (b1 : A1), ok b1 → μ b1 < μ a1 → post' (val b1) → W d post' b1) → W (d + 1) post a1) :
    ∀ (d : Nat) (post : ρ → Prop) (a1 : A1), ok a1 → μ a1 < d → post (val a1) → W d post a1 := by
  intro d
  induction d with
  | zero => intro post a1 _ h; omega
  | succ d ih =>
    intro post a1 ho hm hp
    exact hs d post a1 ho hp (fun post' b1 ho' hm' hp' => ih post' b1 ho' (by omega) hp')
theorem rp2 {ρ A1 A2 : Type} (W : Nat → (ρ → Prop) → A1 → A2 → Prop) (ok : A1 → A2 → Prop) (μ : A1 → A2 → Nat) (val : A1 → A2 → ρ)
    (hs : ∀ (d : Nat) (post : ρ → Prop) (a1 : A1) (a2 : A2), ok a1 a2 → post (val a1 a2) → (∀ (post' : ρ → Prop) (b1 : A1) (b2 : A2), ok b1 b2 → μ b1 b2 < μ a1 a2 → post' (val b1 b2) → W d post' b1 b2) → W (d + 1) post a1 a2) :
    ∀ (d : Nat) (post : ρ → Prop) (a1 : A1) (a2 : A2), ok a1 a2 → μ a1 a2 < d → post (val a1 a2) → W d post a1 a2 := by
  intro d
  induction d with
  | zero => intro post a1 a2 _ h; omega
  | succ d ih =>
    intro post a1 a2 ho hm hp
    exact hs d post a1 a2 ho hp (fun post' b1 b2 ho' hm' hp' => ih post' b1 b2 ho' (by omega) hp')
theorem rp3 {ρ A1 A2 A3 : Type} (W : Nat → (ρ → Prop) → A1 → A2 → A3 → Prop) (ok : A1 → A2 → A3 → Prop) (μ : A1 → A2 → A3 → Nat) (val : A1 → A2 → A3 → ρ)
    (hs : ∀ (d : Nat) (post : ρ → Prop) (a1 : A1) (a2 : A2) (a3 : A3), ok a1 a2 a3 → post (val a1 a2 a3) → (∀ (post' : ρ → Prop) (b1 : A1) (b2 : A2) (b3 : A3), ok b1 b2 b3 → μ b1 b2 b3 < μ a1 a2 a3 → post' (val b1 b2 b3) → W d post' b1 b2 b3) → W (d + 1) post a1 a2 a3) :
    ∀ (d : Nat) (post : ρ → Prop) (a1 : A1) (a2 : A2) (a3 : A3), ok a1 a2 a3 → μ a1 a2 a3 < d → post (val a1 a2 a3) → W d post a1 a2 a3 := by
  intro d
  induction d with
  | zero => intro post a1 a2 a3 _ h; omega
  | succ d ih =>
    intro post a1 a2 a3 ho hm hp
    exact hs d post a1 a2 a3 ho hp (fun post' b1 b2 b3 ho' hm' hp' => ih post' b1 b2 b3 ho' (by omega) hp')
theorem rp4 {ρ A1 A2 A3 A4 : Type} (W : Nat → (ρ → Prop) → A1 → A2 → A3 → A4 → Prop) (ok : A1 → A2 → A3 → A4 → Prop) (μ : A1 → A2 → A3 → A4 → Nat) (val : A1 → A2 → A3 → A4 → ρ)
    (hs : ∀ (d : Nat) (post : ρ → Prop) (a1 : A1) (a2 : A2) (a3 : A3) (a4 : A4), ok a1 a2 a3 a4 → post (val a1 a2 a3 a4) → (∀ (post' : ρ → Prop) (b1 : A1) (b2 : A2) (b3 : A3) (b4 : A4), ok b1 b2 b3 b4 → μ b1 b2 b3 b4 < μ a1 a2 a3 a4 → post' (val b1 b2 b3 b4) → W d post' b1 b2 b3 b4) → W (d + 1) post a1 a2 a3 a4) :
    ∀ (d : Nat) (post : ρ → Prop) (a1 : A1) (a2 : A2) (a3 : A3) (a4 : A4), ok a1 a2 a3 a4 → μ a1 a2 a3 a4 < d → post (val a1 a2 a3 a4) → W d post a1 a2 a3 a4 := by
  intro d
  induction d with
  | zero => intro post a1 a2 a3 a4 _ h; omega
  | succ d ih =>
    intro post a1 a2 a3 a4 ho hm hp
    exact hs d post a1 a2 a3 a4 ho hp (fun post' b1 b2 b3 b4 ho' hm' hp' => ih post' b1 b2 b3 b4 ho' (by omega) hp')
theorem rp5 {ρ A1 A2 A3 A4 A5 : Type} (W : Nat → (ρ → Prop) → A1 → A2 → A3 → A4 → A5 → Prop) (ok : A1 → A2 → A3 → A4 → A5 → Prop) (μ : A1 → A2 → A3 → A4 → A5 → Nat) (val : A1 → A2 → A3 → A4 → A5 → ρ)
    (hs : ∀ (d : Nat) (post : ρ → Prop) (a1 : A1) (a2 : A2) (a3 : A3) (a4 : A4) (a5 : A5), ok a1 a2 a3 a4 a5 → post (val a1 a2 a3 a4 a5) → (∀ (post' : ρ → Prop) (b1 : A1) (b2 : A2) (b3 : A3) (b4 : A4) (b5 : A5), ok b1 b2 b3 b4 b5 → μ b1 b2 b3 b4 b5 < μ a1 a2 a3 a4 a5 → post' (val b1 b2 b3 b4 b5) → W d post' b1 b2 b3 b4 b5) → W (d + 1) post a1 a2 a3 a4 a5) :
    ∀ (d : Nat) (post : ρ → Prop) (a1 : A1) (a2 : A2) (a3 : A3) (a4 : A4) (a5 : A5), ok a1 a2 a3 a4 a5 → μ a1 a2 a3 a4 a5 < d → post (val a1 a2 a3 a4 a5) → W d post a1 a2 a3 a4 a5 := by
  intro d
  induction d with
  | zero => intro post a1 a2 a3 a4 a5 _ h; omega
  | succ d ih =>
    intro post a1 a2 a3 a4 a5 ho hm hp
    exact hs d post a1 a2 a3 a4 a5 ho hp (fun post' b1 b2 b3 b4 b5 ho' hm' hp' => ih post' b1 b2 b3 b4 b5 ho' (by omega) hp')
theorem rp6 {ρ A1 A2 A3 A4 A5 A6 : Type} (W : Nat → (ρ → Prop) → A1 → A2 → A3 → A4 → A5 → A6 → Prop) (ok : A1 → A2 → A3 → A4 → A5 → A6 → Prop) (μ : A1 → A2 → A3 → A4 → A5 → A6 → Nat) (val : A1 → A2 → A3 → A4 → A5 → A6 → ρ)
    (hs : ∀ (d : Nat) (post : ρ → Prop) (a1 : A1) (a2 : A2) (a3 : A3) (a4 : A4) (a5 : A5) (a6 : A6), ok a1 a2 a3 a4 a5 a6 → post (val a1 a2 a3 a4 a5 a6) → (∀ (post' : ρ → Prop) (b1 : A1) (b2 : A2) (b3 : A3) (b4 : A4) (b5 : A5) (b6 : A6), ok b1 b2 b3 b4 b5 b6 → μ b1 b2 b3 b4 b5 b6 < μ a1 a2 a3 a4 a5 a6 → post' (val b1 b2 b3 b4 b5 b6) → W d post' b1 b2 b3 b4 b5 b6) → W (d + 1) post a1 a2 a3 a4 a5 a6) :
    ∀ (d : Nat) (post : ρ → Prop) (a1 : A1) (a2 : A2) (a3 : A3) (a4 : A4) (a5 : A5) (a6 : A6), ok a1 a2 a3 a4 a5 a6 → μ a1 a2 a3 a4 a5 a6 < d → post (val a1 a2 a3 a4 a5 a6) → W d post a1 a2 a3 a4 a5 a6 := by
  intro d
  induction d with
  | zero => intro post a1 a2 a3 a4 a5 a6 _ h; omega
  | succ d ih =>
    intro post a1 a2 a3 a4 a5 a6 ho hm hp
    exact hs d post a1 a2 a3 a4 a5 a6 ho hp (fun post' b1 b2 b3 b4 b5 b6 ho' hm' hp' => ih post' b1 b2 b3 b4 b5 b6 ho' (by omega) hp')
theorem rec_p {σ ρ : Type} (W : Nat → (ρ → Prop) → σ → Prop) (ok : σ → Prop) (μ : σ → Nat) (val : σ → ρ)
    (hs : ∀ d s post, ok s → post (val s) → (∀ s' post', ok s' → μ s' < μ s → post' (val s') → W d post' s') → W (d + 1) post s) :
    ∀ d s post, ok s → μ s < d → post (val s) → W d post s := by
  intro d
  induction d with
  | zero => intro s post _ h; omega
  | succ d ih =>
    intro s post ho hm hp
    exact hs d s post ho hp (fun s' post' ho' hm' hp' => ih s' post' ho' (by omega) hp')
theorem rec_q {σ ρ : Type} (W : Nat → (ρ → Prop) → σ → Prop) (ok : σ → Prop) (μ : σ → Nat) (Q : σ → ρ → Prop)
    (hs : ∀ d s post, ok s → (∀ r, Q s r → post r) → (∀ s' post', ok s' → μ s' < μ s → (∀ r, Q s' r → post' r) → W d post' s') → W (d + 1) post s) :
    ∀ d s post, ok s → μ s < d → (∀ r, Q s r → post r) → W d post s := by
  intro d
  induction d with
  | zero => intro s post _ h; omega
  | succ d ih =>
    intro s post ho hm hp
    exact hs d s post ho hp (fun s' post' ho' hm' hp' => ih s' post' ho' (by omega) hp')
def bx_sum (f : Nat → Int32) : Nat → Int32
  | 0 => 0
  | n + 1 => bx_sum f n + f n
theorem ek_u {A : Prop} {B : Nat → Prop} {k N : Nat} (hk : k < N) (h : B k) : (some k = none → A) ∧ (∀ y : Nat, some k = some y → (y < N ∧ B y)) :=
  ⟨fun z => absurd z (Option.some_ne_none k), fun _ e => (by cases e; exact ⟨hk, h⟩)⟩
theorem ek_nu {A : Prop} {B : Nat → Prop} (h : A) : ((none : Option Nat) = none → A) ∧ (∀ y : Nat, (none : Option Nat) = some y → B y) :=
  ⟨fun _ => h, fun _ e => (by cases e)⟩
theorem ek_if {c d A B : Prop} (e : c ↔ d) (f : d → A) (g : ¬ d → B) : (c → A) ∧ (¬ c → B) :=
  ⟨fun z => f (e.mp z), fun z => g (fun y => z (e.mpr y))⟩
theorem ek_v {α : Sort _} {P : α → Prop} {a b : α} (e : a = b) (h : P b) : P a := e ▸ h
theorem co_some {x : Option Nat} {A : Prop} {B : Nat → Prop} (i : Nat) (h : B i) (hx : x = some i := by rfl) : (x = none → A) ∧ (∀ y : Nat, x = some y → B y) := by
  subst hx
  exact ⟨fun e => (nomatch e), fun y e => Option.some.inj e ▸ h⟩
theorem co_none {x : Option Nat} {A : Prop} {B : Nat → Prop} (h : A) (hx : x = none := by rfl) : (x = none → A) ∧ (∀ y : Nat, x = some y → B y) := by
  subst hx
  exact ⟨fun _ => h, fun y e => (nomatch e)⟩
theorem co_any {x : Option Nat} {A : Prop} {B : Nat → Prop} (hn : x = none → A) (hs : ∀ i : Nat, x = some i → B i) : (x = none → A) ∧ (∀ y : Nat, x = some y → B y) := ⟨hn, hs⟩
theorem co_2 {P : Nat → Prop} (h0 : P 0) (h1 : P 1) {i : Nat} (hi : i < 2) : P i :=
  match i, hi with
  | 0, _ => h0
  | 1, _ => h1
theorem co_3 {P : Nat → Prop} (h0 : P 0) (h1 : P 1) (h2 : P 2) {i : Nat} (hi : i < 3) : P i :=
  match i, hi with
  | 0, _ => h0
  | 1, _ => h1
  | 2, _ => h2
theorem co_4 {P : Nat → Prop} (h0 : P 0) (h1 : P 1) (h2 : P 2) (h3 : P 3) {i : Nat} (hi : i < 4) : P i :=
  match i, hi with
  | 0, _ => h0
  | 1, _ => h1
  | 2, _ => h2
  | 3, _ => h3
theorem co_dec {N : Nat} {P : Nat → Prop} [DecidablePred P] (h : (List.range N).all (fun i => decide (P i)) = true) {i : Nat} (hi : i < N) : P i := by
  have := List.all_eq_true.mp h i (List.mem_range.mpr hi)
  exact of_decide_eq_true this
theorem co_tab {α : Type} {l : List α} {d : α} {P : α → Prop} (h : ∀ a, a ∈ l → P a) {i : Nat} (hi : i < l.length) : P (l.getD i d) := by
  rw [List.getD_eq_getElem?_getD, List.getElem?_eq_getElem hi]
  exact h _ (List.getElem_mem hi)
theorem pk_mu {x : Int32} {L : Nat} (h0 : ¬ x < 0) (h : ¬ nI L ≤ x) (hL : L < 2 ^ 31) : ∃ j : Nat, j < L ∧ x = nI j ∧ x + 1 = nI (j + 1) ∧ x.toNatClampNeg = j ∧ L - (x + 1).toNatClampNeg < L - x.toNatClampNeg := by
  obtain ⟨j, hj, rfl⟩ := nI_of h0
  have hl : j < L := Nat.not_le.mp fun q => h (nI_le q hj)
  refine ⟨j, hl, rfl, nI_1 j, nI_clamp hj, ?_⟩
  rw [nI_1, nI_clamp (by omega), nI_clamp hj]
  omega
theorem op_s {α : Type} {r : Option α} {A : Prop} {B : α → Prop} {y : α} (h : r = some y) (b : B y) : (r = none → A) ∧ ∀ z, r = some z → B z :=
  ⟨fun e => (by rw [h] at e; cases e), fun z e => (by rw [h] at e; cases e; exact b)⟩
def l_holds {α : Type} (a : Nat → Option Nat) (LP : List Nat) (p : Nat → α) (c : Nat) (b : Nat → α) : Prop :=
  ∀ j, j < c → ∃ y, a j = some y ∧ y ∈ LP ∧ p y = b j
theorem l_holds_0 {α : Type} {a : Nat → Option Nat} {LP : List Nat} {p b : Nat → α} : l_holds a LP p 0 b := fun j h => absurd h (Nat.not_lt_zero j)
theorem l_in_new (LP : List Nat) (q : Nat) : q ∈ LP ++ [q] := List.mem_append.mpr (Or.inr (List.mem_singleton.mpr rfl))
def l_sum (b : Nat → Int32) : Nat → Int32
  | 0 => 0
  | k + 1 => l_sum b k + b k
theorem sb_shr0 (x : Int32) : x >>> ((0 : Int32) &&& 31) = x := by
  rw [show ((0 : Int32) &&& 31) = 0 by decide]
  simp
theorem sb_shl0 (x : Int32) : x <<< ((0 : Int32) &&& 31) = x := by
  rw [show ((0 : Int32) &&& 31) = 0 by decide]
  simp
theorem sb_cl0 : (0 : Int32).toNatClampNeg = 0 := by decide
theorem sb_m1 {p : Nat} (h : 0 < p) : nI p + (-1) = nI (p - 1) := by
  obtain ⟨q, rfl⟩ : ∃ q, p = q + 1 := ⟨p - 1, by omega⟩
  exact pk_m1 q
def sb_b (c : Nat) : Int32 := (nI c).toInt8.toInt32
theorem sb_byte : ∀ c, c < 256 → sb_b c &&& 255 = nI c ∧ ((nI c).toUInt32 % 65536).toInt32 = nI c ∧ nI c ≤ 255 := by decide +kernel
def sb_Fit (a : Nat → Int32) : Prop := ∀ j, fits .byte (.int (a j)) = true
def sb_Lat (t : Nat → Nat) (n : Nat) (a : Nat → Int32) : Prop := ∀ j, j < n → t j < 256 ∧ a j = sb_b (t j)
theorem sb_fitB (c : Nat) : fits .byte (.int (sb_b c)) = true := pk_fb _
theorem sb_fit0 : sb_Fit (fun _ => 0) := fun _ => by
  show fits .byte (.int 0) = true
  decide
theorem sb_fitU {a : Nat → Int32} {k : Nat} {x : Int32} (h : sb_Fit a) (hx : fits .byte (.int x) = true) : sb_Fit (upd a k x) := by
  intro j
  by_cases e : j = k
  · subst e
    rw [pk_us]
    exact hx
  · rw [pk_un e]
    exact h j
def sb_cat (t : Nat → Nat) (n : Nat) (s : Nat → Nat) : Nat → Nat := fun j => if j < n then t j else s (j - n)
theorem sb_cat_lo {t s : Nat → Nat} {n j : Nat} (h : j < n) : sb_cat t n s j = t j := if_pos h
theorem sb_cat_hi {t s : Nat → Nat} {n j : Nat} : sb_cat t n s (n + j) = s j := by
  show (if n + j < n then t (n + j) else s (n + j - n)) = s j
  rw [if_neg (by omega), Nat.add_sub_cancel_left]
theorem sb_latPut {t s : Nat → Nat} {n w : Nat} {a a' : Nat → Int32} (h : sb_Lat t n a) (hk : ∀ j, j < n → a' j = a j) (hs : ∀ i, i < w → s i < 256 ∧ a' (n + i) = sb_b (s i)) : sb_Lat (sb_cat t n s) (n + w) a' := by
  intro j hj
  by_cases e : j < n
  · rw [sb_cat_lo e, hk j e]
    exact h j e
  · obtain ⟨i, rfl⟩ : ∃ i, j = n + i := ⟨j - n, by omega⟩
    rw [sb_cat_hi]
    exact hs i (by omega)
theorem sb_latKeep {t : Nat → Nat} {n : Nat} {a a' : Nat → Int32} (h : sb_Lat t n a) (hk : ∀ j, j < n → a' j = a j) : sb_Lat t n a' := fun j hj => by
  rw [hk j hj]
  exact h j hj
def sb_cap (q m : Nat) : Nat := if q ≤ m then m else if 2 * m + 2 < q then q else 2 * m + 2
def sb_Room (q m mc ms : Nat) : Prop := q ≤ m ∨ (1 ≤ mc ∧ sb_cap q m ≤ ms ∧ sb_cap q m ≤ 65536)
theorem sb_cap_ge (q m : Nat) : q ≤ sb_cap q m := by
  unfold sb_cap
  split
  · omega
  · split <;> omega
theorem sb_cap_gem (q m : Nat) : m ≤ sb_cap q m := by
  unfold sb_cap
  split
  · omega
  · split <;> omega
theorem sb_cap_le {q m mc ms : Nat} (hm : m ≤ 65536) (hr : sb_Room q m mc ms) : sb_cap q m ≤ 65536 := by
  rcases hr with h | h
  · rw [sb_cap, if_pos h]
    exact hm
  · exact h.2.2
theorem sb_at {P : Int32 → Prop} {x y : Int32} (e : x = y) (h : P y) : P x := e ▸ h
def sb_dg (w : Nat) : Nat := if w < 10 then 1 else if w < 100 then 2 else if w < 1000 then 3 else if w < 10000 then 4 else if w < 100000 then 5 else if w < 1000000 then 6 else if w < 10000000 then 7 else if w < 100000000 then 8 else if w < 1000000000 then 9 else 10
def sb_dec (v : Nat) : Nat → Nat := fun i => 48 + v / 10 ^ (sb_dg v - 1 - i) % 10
theorem sb_dg_in (w : Nat) : 1 ≤ sb_dg w ∧ sb_dg w ≤ 10 := by
  unfold sb_dg
  constructor <;> (repeat' split) <;> omega
theorem sb_dg100 {w : Nat} (h : 100 ≤ w) (hw : w < 2 ^ 31) : sb_dg w = sb_dg (w / 100) + 2 := by
  rw [sb_dg, sb_dg, if_neg (show ¬ w < 10 by omega), if_neg (show ¬ w < 100 by omega)]
  by_cases h3 : w < 1000
  · rw [if_pos h3, if_pos (show w / 100 < 10 by omega)]
  rw [if_neg h3, if_neg (show ¬ w / 100 < 10 by omega)]
  by_cases h4 : w < 10000
  · rw [if_pos h4, if_pos (show w / 100 < 100 by omega)]
  rw [if_neg h4, if_neg (show ¬ w / 100 < 100 by omega)]
  by_cases h5 : w < 100000
  · rw [if_pos h5, if_pos (show w / 100 < 1000 by omega)]
  rw [if_neg h5, if_neg (show ¬ w / 100 < 1000 by omega)]
  by_cases h6 : w < 1000000
  · rw [if_pos h6, if_pos (show w / 100 < 10000 by omega)]
  rw [if_neg h6, if_neg (show ¬ w / 100 < 10000 by omega)]
  by_cases h7 : w < 10000000
  · rw [if_pos h7, if_pos (show w / 100 < 100000 by omega)]
  rw [if_neg h7, if_neg (show ¬ w / 100 < 100000 by omega)]
  by_cases h8 : w < 100000000
  · rw [if_pos h8, if_pos (show w / 100 < 1000000 by omega)]
  rw [if_neg h8, if_neg (show ¬ w / 100 < 1000000 by omega)]
  by_cases h9 : w < 1000000000
  · rw [if_pos h9, if_pos (show w / 100 < 10000000 by omega)]
  rw [if_neg h9, if_neg (show ¬ w / 100 < 10000000 by omega)]
  rw [if_pos (show w / 100 < 100000000 by omega)]
theorem sb_negT {w : Nat} (h : w < 2 ^ 31) : (-nI w).toInt = -(w : Int) := by
  rw [Int32.toInt_neg, nI_toInt h]
  exact Int.bmod_eq_of_le (by omega) (by omega)
theorem sb_nle {a b : Nat} (ha : a < 2 ^ 31) (hb : b < 2 ^ 31) : -nI a ≤ -nI b ↔ b ≤ a := by
  rw [Int32.le_iff_toInt_le, sb_negT ha, sb_negT hb]
  omega
theorem sb_nlt {a b : Nat} (ha : a < 2 ^ 31) (hb : b < 2 ^ 31) : -nI a < -nI b ↔ b < a := by
  rw [Int32.lt_iff_toInt_lt, sb_negT ha, sb_negT hb]
  omega
theorem sb_cmp {A B : Prop} {x : Int32} (v c : Nat) (f : c ≤ v → A) (g : v < c → B) (hv : v < 2 ^ 31) (hx : x = -nI c := by rfl) (hc : c < 2 ^ 31 := by omega) : (-nI v ≤ x → A) ∧ (¬ -nI v ≤ x → B) := by
  subst hx
  rw [sb_nle hv hc]
  exact ⟨f, fun z => g (by omega)⟩
theorem sb_ndiv {w : Nat} (hw : w < 2 ^ 31) : (-nI w) / 100 = -nI (w / 100) := by
  apply Int32.toInt_inj.mp
  have h100 : (100 : Int32).toInt = 100 := by decide
  rw [Int32.toInt_div, sb_negT hw, h100, sb_negT (by omega), Int.neg_tdiv, Int.tdiv_eq_ediv_of_nonneg (by omega), Int.bmod_eq_of_le (by omega) (by omega)]
  omega
theorem sb_nrem {w : Nat} (hw : w < 2 ^ 31) : (-nI (w / 100)) * 100 - (-nI w) = nI (w % 100) := by
  have h := pk_rem (a := w) (d := 100) hw (by decide) (by decide)
  rw [pk_div hw (by decide) (by decide)] at h
  rw [← h]
  show (-nI (w / 100)) * nI 100 - (-nI w) = nI w - nI (w / 100) * nI 100
  rw [Int32.neg_mul, Int32.sub_neg, Int32.add_comm, ← Int32.sub_eq_add_neg]
end
section
/-! rows on bits, shifts and unsigned numbers, to paste: each family out of a closed proof of our own, whole with what it rests on; each by itself clean at Lean in its own claim (generation 39, form 5). Take a family whole -/
/-! ===== Int32 by its bits: bt x i ===== -/
def bt (x : Int32) (i : Nat) : Bool := x.toBitVec.getLsbD i
theorem b_ext {x y : Int32} (h : ∀ i, i < 32 → bt x i = bt y i) : x = y := Int32.toBitVec_inj.mp (BitVec.eq_of_getLsbD_eq (fun i hi => h i hi))
theorem b_or (x y : Int32) (i : Nat) : bt (x ||| y) i = (bt x i || bt y i) := by unfold bt; rw [Int32.toBitVec_or, BitVec.getLsbD_or]
theorem b_and (x y : Int32) (i : Nat) : bt (x &&& y) i = (bt x i && bt y i) := by unfold bt; rw [Int32.toBitVec_and, BitVec.getLsbD_and]
theorem b_xor (x y : Int32) (i : Nat) : bt (x ^^^ y) i = (bt x i ^^ bt y i) := by unfold bt; rw [Int32.toBitVec_xor, BitVec.getLsbD_xor]
theorem b_big {x : Int32} {i : Nat} (h : 32 ≤ i) : bt x i = false := BitVec.getLsbD_of_ge _ _ h
theorem b_255 (i : Nat) : bt 255 i = decide (i < 8) := by
  rcases Nat.lt_or_ge i 32 with h | h
  · exact (by decide +kernel : ∀ i, i < 32 → bt 255 i = decide (i < 8)) i h
  · rw [b_big h, decide_eq_false (by omega)]
theorem b_65535 (i : Nat) : bt 65535 i = decide (i < 16) := by
  rcases Nat.lt_or_ge i 32 with h | h
  · exact (by decide +kernel : ∀ i, i < 32 → bt 65535 i = decide (i < 16)) i h
  · rw [b_big h, decide_eq_false (by omega)]
theorem b_m1 : ∀ i, i < 32 → bt (-1) i = true := by decide +kernel
theorem b_0 (i : Nat) : bt 0 i = false := BitVec.getLsbD_zero
theorem s_l : ∀ n, n < 32 → ((nI n &&& 31).toBitVec.smod 32).toNat = n := by decide +kernel
theorem s_u : ∀ n, n < 32 → (((nI n).toUInt32 &&& Int32.toUInt32 31).toBitVec % 32).toNat = n := by decide +kernel
theorem b_shl (n : Nat) (hn : n < 32) (x : Int32) {i : Nat} (hi : i < 32) : bt (x <<< (nI n &&& 31)) i = (decide (n ≤ i) && bt x (i - n)) := by
  unfold bt
  rw [Int32.toBitVec_shiftLeft]
  show (x.toBitVec <<< ((nI n &&& 31).toBitVec.smod 32).toNat).getLsbD i = _
  rw [s_l n hn, BitVec.getLsbD_shiftLeft]
  rcases Nat.lt_or_ge i n with h | h
  · simp [h, Nat.not_le.mpr h]
  · simp [hi, h, Nat.not_lt.mpr h]
theorem b_ushr (n : Nat) (hn : n < 32) (x : Int32) (i : Nat) : bt ((x.toUInt32 >>> ((nI n).toUInt32 &&& Int32.toUInt32 31)).toInt32) i = bt x (n + i) := by
  show (x.toUInt32 >>> ((nI n).toUInt32 &&& Int32.toUInt32 31)).toBitVec.getLsbD i = x.toUInt32.toBitVec.getLsbD (n + i)
  rw [UInt32.toBitVec_shiftRight]
  show (x.toUInt32.toBitVec >>> (((nI n).toUInt32 &&& Int32.toUInt32 31).toBitVec % 32).toNat).getLsbD i = _
  rw [s_u n hn, BitVec.getLsbD_ushiftRight]
theorem b_sshr (n : Nat) (hn : n < 32) (x : Int32) {i : Nat} (hi : i < 32) : bt (x >>> (nI n &&& 31)) i = if n + i < 32 then bt x (n + i) else bt x 31 := by
  unfold bt
  rw [Int32.toBitVec_shiftRight]
  show (x.toBitVec.sshiftRight ((nI n &&& 31).toBitVec.smod 32).toNat).getLsbD i = _
  rw [s_l n hn, BitVec.getLsbD_sshiftRight, BitVec.msb_eq_getLsbD_last]
  simp [hi]
theorem b_shl8 (x : Int32) {i : Nat} (hi : i < 32) : bt (x <<< ((8 : Int32) &&& 31)) i = (decide (8 ≤ i) && bt x (i - 8)) := b_shl 8 (by omega) x hi
theorem b_shl16 (x : Int32) {i : Nat} (hi : i < 32) : bt (x <<< ((16 : Int32) &&& 31)) i = (decide (16 ≤ i) && bt x (i - 16)) := b_shl 16 (by omega) x hi
theorem b_shl24 (x : Int32) {i : Nat} (hi : i < 32) : bt (x <<< ((24 : Int32) &&& 31)) i = (decide (24 ≤ i) && bt x (i - 24)) := b_shl 24 (by omega) x hi
theorem b_sshr8 (x : Int32) {i : Nat} (hi : i < 32) : bt (x >>> ((8 : Int32) &&& 31)) i = if 8 + i < 32 then bt x (8 + i) else bt x 31 := b_sshr 8 (by omega) x hi
/-! ===== nI under and, xor, >>>, one bit, 65535 ===== -/
theorem nx_and (a b : Nat) : nI a &&& nI b = nI (a &&& b) := by
  apply Int32.toBitVec_inj.1
  show BitVec.ofNat 32 a &&& BitVec.ofNat 32 b = BitVec.ofNat 32 (a &&& b)
  apply BitVec.eq_of_getLsbD_eq
  intro i hi
  simp [hi]
theorem nx_xor (a b : Nat) : nI a ^^^ nI b = nI (a ^^^ b) := by
  apply Int32.toBitVec_inj.1
  show BitVec.ofNat 32 a ^^^ BitVec.ofNat 32 b = BitVec.ofNat 32 (a ^^^ b)
  apply BitVec.eq_of_getLsbD_eq
  intro i hi
  simp [hi]
theorem nx_cnt : ∀ j : Fin 32, (UInt32.ofNat j.val &&& Int32.toUInt32 31).toNat % 32 = j.val := by decide +kernel
theorem nx_ush {k j : Nat} (hk : k < 65536) (hj : j < 32) : ((nI k).toUInt32 >>> ((nI j).toUInt32 &&& Int32.toUInt32 31)).toInt32 = nI (k >>> j) := by
  have hs : k >>> j ≤ k := by
    rw [Nat.shiftRight_eq_div_pow]
    exact Nat.div_le_self _ _
  have e2 : UInt32.ofNat k >>> (UInt32.ofNat j &&& Int32.toUInt32 31) = UInt32.ofNat (k >>> j) := by
    apply UInt32.toNat_inj.1
    have h1 : (UInt32.ofNat k).toNat = k := Nat.mod_eq_of_lt (by omega)
    have h2 : (UInt32.ofNat (k >>> j)).toNat = k >>> j := Nat.mod_eq_of_lt (by omega)
    rw [UInt32.toNat_shiftRight, nx_cnt ⟨j, hj⟩, h1, h2]
  show (UInt32.ofNat k >>> (UInt32.ofNat j &&& Int32.toUInt32 31)).toInt32 = _
  rw [e2]
  rfl
theorem nx_bit {k j : Nat} (hk : k < 65536) (hj : j < 16) : (((nI k).toUInt32 >>> ((nI j).toUInt32 &&& Int32.toUInt32 31)).toInt32 &&& 1) = 0 ↔ k.testBit j = false := by
  rw [nx_ush hk (by omega)]
  show nI (k >>> j) &&& nI 1 = 0 ↔ _
  rw [nx_and, Nat.and_one_is_mod, ← nI_0, nI_eq (by omega) (by omega), Nat.testBit_eq_decide_div_mod_eq, Nat.shiftRight_eq_div_pow, decide_eq_false_iff_not]
  generalize k / 2 ^ j = z
  omega
theorem nx_mod (k : Nat) : nI k &&& 65535 = nI (k % 65536) := by
  show nI k &&& nI 65535 = _
  rw [nx_and, show (65535 : Nat) = 2 ^ 16 - 1 from rfl, Nat.and_two_pow_sub_one_eq_mod]
theorem nx_m16 {k : Nat} (h : k < 65536) : nI k &&& 65535 = nI k := by rw [nx_mod, Nat.mod_eq_of_lt h]
theorem nx_mask (x : Int32) : ∃ k, k < 65536 ∧ x &&& 65535 = nI k := by
  have e : x = nI x.toBitVec.toNat := by
    apply Int32.toBitVec_inj.1
    show x.toBitVec = BitVec.ofNat 32 x.toBitVec.toNat
    simp
  refine ⟨x.toBitVec.toNat % 65536, Nat.mod_lt _ (by omega), ?_⟩
  rw [← nx_mod, ← e]
/-! ===== Int32 as a set of bits: test, set ===== -/
def nf_M (m : Int32) : Nat := 4294967296 - m.toBitVec.toNat
theorem nf_sh : ∀ l, l < 32 → ((1 : Int32) <<< (nI l &&& 31)).toBitVec = BitVec.twoPow 32 l := by decide +kernel
theorem nf_sl : ∀ l, l < 32 → (((nI l).toUInt32 &&& Int32.toUInt32 31).toBitVec % 32).toNat = l := by decide +kernel
theorem nf_tp : ∀ l, l < 32 → BitVec.twoPow 32 l ≠ 0#32 := by decide +kernel
theorem nf_bit (m : Int32) (l : Nat) (hl : l < 32) : ((m.toUInt32 >>> ((nI l).toUInt32 &&& Int32.toUInt32 31)).toInt32 &&& 1) = 0 ↔ (m &&& ((1 : Int32) <<< (nI l &&& 31))) = 0 := by
  have e : ((m.toUInt32 >>> ((nI l).toUInt32 &&& Int32.toUInt32 31)).toInt32).toBitVec = m.toBitVec >>> l := by
    show m.toBitVec >>> (((nI l).toUInt32 &&& Int32.toUInt32 31).toBitVec % 32) = m.toBitVec >>> l
    rw [BitVec.ushiftRight_eq', nf_sl l hl]
  rw [← Int32.toBitVec_inj, ← Int32.toBitVec_inj, Int32.toBitVec_and, Int32.toBitVec_and, nf_sh l hl, e, BitVec.and_twoPow]
  show (m.toBitVec >>> l &&& 1#32) = 0#32 ↔ _ = 0#32
  rw [BitVec.and_one_eq_setWidth_ofBool_getLsbD, BitVec.getLsbD_ushiftRight, Nat.add_zero]
  cases hb : m.toBitVec.getLsbD l
  · exact ⟨fun _ => by simp, fun _ => by decide⟩
  · exact ⟨fun z => absurd z (by decide), fun z => absurd ((if_pos rfl).symm.trans z) (nf_tp l hl)⟩
theorem nf_gr (m k : Int32) (h : m &&& k = 0) (hk : k ≠ 0) : nf_M (m ||| k) < nf_M m := by
  have hm := m.toBitVec.isLt
  have hm' := (m ||| k).toBitVec.isLt
  have h1 : m.toBitVec.toNat ≤ (m ||| k).toBitVec.toNat := by
    rw [Int32.toBitVec_or, BitVec.toNat_or]
    exact Nat.left_le_or
  have h2 : m.toBitVec.toNat ≠ (m ||| k).toBitVec.toNat := by
    intro e
    have e2 : m = m ||| k := Int32.toBitVec_inj.mp (BitVec.eq_of_toNat_eq e)
    apply hk
    apply Int32.toBitVec_inj.mp
    show k.toBitVec = 0#32
    apply BitVec.eq_of_getLsbD_eq
    intro i hi
    have a : m.toBitVec.getLsbD i = (m.toBitVec.getLsbD i || k.toBitVec.getLsbD i) := by rw [← BitVec.getLsbD_or, ← Int32.toBitVec_or, ← e2]
    have b : (m.toBitVec.getLsbD i && k.toBitVec.getLsbD i) = false := by
      rw [← BitVec.getLsbD_and, ← Int32.toBitVec_and, h]
      exact BitVec.getLsbD_zero
    rw [BitVec.getLsbD_zero]
    revert a b
    cases m.toBitVec.getLsbD i <;> cases k.toBitVec.getLsbD i <;> simp
  unfold nf_M
  omega
/-! ===== a byte read unsigned ===== -/
theorem bp_b (x : Int32) : x.toInt8.toInt32 &&& 255 = x &&& 255 := by
  apply Int32.toBitVec_inj.mp
  rw [Int32.toBitVec_and, Int32.toBitVec_and, Int8.toBitVec_toInt32, Int32.toBitVec_toInt8]
  apply BitVec.eq_of_getLsbD_eq
  intro i hi
  rw [BitVec.getLsbD_and, BitVec.getLsbD_and]
  have hm : ∀ i < 32, 8 ≤ i → (255 : Int32).toBitVec.getLsbD i = false := by decide
  rcases Nat.lt_or_ge i 8 with z | z
  · rw [BitVec.getLsbD_signExtend, BitVec.getLsbD_signExtend, if_pos z, if_pos hi]
    simp only [z, hi, decide_true, Bool.true_and]
  · rw [hm i hi z]; simp
/-! ===== the char cast and 65535 ===== -/
theorem em_w (v : Int32) : ∃ w : Nat, w < 65536 ∧ (v.toUInt32 % 65536).toInt32 = nI w ∧ v &&& 65535 = nI w := by
  have hr := lw_u16_r v
  have h0 : (0 : Int32).toInt = 0 := by decide
  obtain ⟨w, h1, h2⟩ := nI_of (x := lw_u16 v) (by rw [Int32.lt_iff_toInt_lt]; omega)
  have h3 : (v.toUInt32 % 65536).toInt32 = nI w := h2
  rw [h2, nI_toInt h1] at hr
  exact ⟨w, by omega, h3, by rw [← lg_i2c_mask, ← lg_i2c_nf, h3]⟩
/-! ===== Int64 as a set of bits: test, set, clear ===== -/
theorem ts_nf {x : Bool} (h : ¬ x = false) : x = true := by cases x <;> first | rfl | exact absurd rfl h
theorem ts_nt {x : Bool} (h : ¬ x = true) : x = false := by cases x <;> first | rfl | exact absurd rfl h
theorem ts_bit {w : Int64} {s : UInt64} {j : Nat} (hj : j < 64) (hs : s.toNat = j) : ((w.toUInt64 >>> s).toInt64 &&& 1) = 0 ↔ w.toBitVec.getLsbD j = false := by
  have e : (w.toUInt64 >>> s).toInt64.toBitVec = w.toBitVec >>> j := by
    apply BitVec.eq_of_toNat_eq
    show (w.toUInt64 >>> s).toNat = _
    rw [UInt64.toNat_shiftRight, hs, Nat.mod_eq_of_lt hj, BitVec.toNat_ushiftRight]
    rfl
  rw [← Int64.toBitVec_inj, Int64.toBitVec_and, e]
  show w.toBitVec >>> j &&& 1#64 = 0#64 ↔ _
  constructor
  · intro h
    have t := congrArg (fun x => x.getLsbD 0) h
    simpa using t
  · intro h
    apply BitVec.eq_of_getLsbD_eq
    intro i hi
    cases i with
    | zero => simp [h]
    | succ i => simp
theorem ts_or {w m : Int64} {j : Nat} (hj : j < 64) (hm : m.toBitVec = BitVec.twoPow 64 j) : (w ||| m) = w ↔ w.toBitVec.getLsbD j = true := by
  rw [← Int64.toBitVec_inj, Int64.toBitVec_or, hm]
  constructor
  · intro h
    have t := congrArg (fun x => x.getLsbD j) h
    simp only [BitVec.getLsbD_or, BitVec.getLsbD_twoPow] at t
    simpa [hj] using t.symm
  · intro h
    apply BitVec.eq_of_getLsbD_eq
    intro i hi
    rw [BitVec.getLsbD_or, BitVec.getLsbD_twoPow]
    by_cases e : j = i
    · subst e; rw [h, Bool.true_or]
    · simp [e]
theorem ts_and {w m : Int64} {j : Nat} (hj : j < 64) (hm : m.toBitVec = BitVec.twoPow 64 j) : (w &&& (m ^^^ (-1))) = w ↔ w.toBitVec.getLsbD j = false := by
  have ha : (-1 : Int64).toBitVec = BitVec.allOnes 64 := by decide
  rw [← Int64.toBitVec_inj, Int64.toBitVec_and, Int64.toBitVec_xor, hm, ha]
  constructor
  · intro h
    have t := congrArg (fun x => x.getLsbD j) h
    simp only [BitVec.getLsbD_and, BitVec.getLsbD_xor, BitVec.getLsbD_twoPow, BitVec.getLsbD_allOnes] at t
    simpa [hj] using t.symm
  · intro h
    apply BitVec.eq_of_getLsbD_eq
    intro i hi
    rw [BitVec.getLsbD_and, BitVec.getLsbD_xor, BitVec.getLsbD_twoPow, BitVec.getLsbD_allOnes]
    by_cases e : j = i
    · subst e; rw [h, Bool.false_and]
    · simp [e, hi]
/-! ===== lN n to 2^64: shifts, and, or, masks, one bit ===== -/
theorem wb_tb (n : Nat) : (lN n).toBitVec = BitVec.ofNat 64 n := rfl
theorem wb_inj {a b : Int64} (h : a.toBitVec = b.toBitVec) : a = b := Int64.toBitVec_inj.mp h
theorem wb_tn {n : Nat} (h : n < 2 ^ 64) : (lN n).toBitVec.toNat = n := by rw [wb_tb, BitVec.toNat_ofNat, Nat.mod_eq_of_lt h]
theorem wb_of (x : Int64) : ∃ n, n < 2 ^ 64 ∧ x = lN n := ⟨x.toBitVec.toNat, x.toBitVec.isLt, wb_inj (by rw [wb_tb]; simp)⟩
theorem wb_of32 (x : Int32) : ∃ n, n < 2 ^ 32 ∧ x = nI n := ⟨x.toBitVec.toNat, x.toBitVec.isLt, Int32.toBitVec_inj.mp (by show _ = BitVec.ofNat 32 _; simp)⟩
theorem wb_c : ∀ k, k < 64 → ((nI k).toInt64 &&& 63) = lN k := by decide +kernel
theorem wb_cu : ∀ k, k < 64 → ((nI k).toInt64.toUInt64 &&& Int64.toUInt64 63) = UInt64.ofNat k := by decide +kernel
theorem wb_sm : ∀ k, k < 64 → (BitVec.ofNat 64 k).smod 64 = BitVec.ofNat 64 k := by decide +kernel
theorem wb_pw {a b : Nat} (h : a ≤ b) : 2 ^ b = 2 ^ a * 2 ^ (b - a) := by rw [← Nat.pow_add]; congr 1; omega
theorem wb_lt2 {a b : Nat} (h : a < b) : 2 ^ a < 2 ^ b := Nat.pow_lt_pow_right (by decide) h
theorem wb_mod (n : Nat) : lN n = lN (n % 2 ^ 64) := wb_inj (by rw [wb_tb, wb_tb]; apply BitVec.eq_of_toNat_eq; rw [BitVec.toNat_ofNat, BitVec.toNat_ofNat, Nat.mod_mod])
theorem wb_shr {n k : Nat} (hn : n < 2 ^ 64) (hk : k < 64) : ((lN n).toUInt64 >>> ((nI k).toInt64.toUInt64 &&& Int64.toUInt64 63)).toInt64 = lN (n / 2 ^ k) := by
  rw [wb_cu k hk]
  apply wb_inj
  apply BitVec.eq_of_toNat_eq
  show ((lN n).toUInt64 >>> UInt64.ofNat k).toNat = (BitVec.ofNat 64 _).toNat
  have h1 : (UInt64.ofNat k).toNat = k := by
    show (BitVec.ofNat 64 k).toNat = k
    rw [BitVec.toNat_ofNat, Nat.mod_eq_of_lt (by omega)]
  have h2 : (lN n).toUInt64.toNat = n := wb_tn hn
  rw [UInt64.toNat_shiftRight, h1, h2, Nat.mod_eq_of_lt hk, Nat.shiftRight_eq_div_pow, BitVec.toNat_ofNat, Nat.mod_eq_of_lt (Nat.lt_of_le_of_lt (Nat.div_le_self _ _) hn)]
theorem wb_shl (n : Nat) {k : Nat} (hk : k < 64) : lN n <<< ((nI k).toInt64 &&& 63) = lN (n * 2 ^ k) := by
  rw [wb_c k hk]
  apply wb_inj
  rw [Int64.toBitVec_shiftLeft, wb_tb, wb_tb, wb_tb, wb_sm k hk]
  apply BitVec.eq_of_toNat_eq
  rw [BitVec.shiftLeft_eq', BitVec.toNat_shiftLeft, BitVec.toNat_ofNat, BitVec.toNat_ofNat, BitVec.toNat_ofNat, Nat.mod_eq_of_lt (show k < 2 ^ 64 by omega), Nat.shiftLeft_eq, Nat.mul_mod, Nat.mod_mod, ← Nat.mul_mod]
theorem wb_and {a b : Nat} (ha : a < 2 ^ 64) (hb : b < 2 ^ 64) : lN a &&& lN b = lN (a &&& b) := by
  apply wb_inj
  rw [Int64.toBitVec_and, wb_tb, wb_tb, wb_tb]
  apply BitVec.eq_of_toNat_eq
  rw [BitVec.toNat_and, BitVec.toNat_ofNat, BitVec.toNat_ofNat, BitVec.toNat_ofNat, Nat.mod_eq_of_lt ha, Nat.mod_eq_of_lt hb, Nat.mod_eq_of_lt (Nat.and_lt_two_pow _ hb)]
theorem wb_or {a b : Nat} (ha : a < 2 ^ 64) (hb : b < 2 ^ 64) : lN a ||| lN b = lN (a ||| b) := by
  apply wb_inj
  rw [Int64.toBitVec_or, wb_tb, wb_tb, wb_tb]
  apply BitVec.eq_of_toNat_eq
  rw [BitVec.toNat_or, BitVec.toNat_ofNat, BitVec.toNat_ofNat, BitVec.toNat_ofNat, Nat.mod_eq_of_lt ha, Nat.mod_eq_of_lt hb, Nat.mod_eq_of_lt (Nat.or_lt_two_pow ha hb)]
theorem wb_mask {n k : Nat} (hn : n < 2 ^ 64) (hk : k < 64) : lN n &&& lN (2 ^ k - 1) = lN (n % 2 ^ k) := by
  rw [wb_and hn (by have := wb_lt2 hk; omega), Nat.and_two_pow_sub_one_eq_mod]
theorem wb_a1 {n : Nat} (hn : n < 2 ^ 64) : lN n &&& 1 = lN (n % 2) := wb_mask (k := 1) hn (by decide)
theorem wb_bit {n k : Nat} (hn : n < 2 ^ 64) (hk : k < 64) : ((lN n).toUInt64 >>> ((nI k).toInt64.toUInt64 &&& Int64.toUInt64 63)).toInt64 &&& 1 = lN (n / 2 ^ k % 2) := by
  rw [wb_shr hn hk, wb_a1 (Nat.lt_of_le_of_lt (Nat.div_le_self _ _) hn)]
theorem wb_xor {q k : Nat} (hk : k < 63) (h : 2 ^ k ≤ q) (h2 : q < 2 ^ (k + 1)) : lN q ^^^ lN (2 ^ k) = lN (q - 2 ^ k) := by
  obtain ⟨r, rfl⟩ : ∃ r, q = 2 ^ k + r := ⟨q - 2 ^ k, by omega⟩
  have hr : r < 2 ^ k := by rw [Nat.pow_succ] at h2; omega
  have hx : (2 ^ k + r) ^^^ 2 ^ k = r := by
    apply Nat.eq_of_testBit_eq
    intro i
    rw [Nat.testBit_xor, Nat.testBit_two_pow]
    rcases Nat.lt_trichotomy i k with h | h | h
    · rw [Nat.testBit_two_pow_add_gt h]
      simp [show ¬ k = i by omega]
    · subst h
      rw [Nat.testBit_two_pow_add_eq]
      simp
    · have a1 : 2 ^ (k + 1) ≤ 2 ^ i := Nat.pow_le_pow_right (by decide) h
      rw [Nat.testBit_lt_two_pow (show 2 ^ k + r < 2 ^ i by omega), Nat.testBit_lt_two_pow (show r < 2 ^ i by omega)]
      simp [show ¬ k = i by omega]
  have b1 := wb_lt2 (show k + 1 < 64 by omega)
  have b2 := wb_lt2 (show k < 64 by omega)
  apply wb_inj
  rw [Int64.toBitVec_xor, wb_tb, wb_tb, wb_tb]
  apply BitVec.eq_of_toNat_eq
  rw [BitVec.toNat_xor, BitVec.toNat_ofNat, BitVec.toNat_ofNat, BitVec.toNat_ofNat, Nat.mod_eq_of_lt (by omega : 2 ^ k + r < 2 ^ 64), Nat.mod_eq_of_lt b2, hx, Nat.add_sub_cancel_left, Nat.mod_eq_of_lt (by omega)]
/-! ===== lN: masks, 'or' of parts that don't overlap is a sum ===== -/
theorem u_tn {n : Nat} (h : n < 2 ^ 64) : (UInt64.ofNat n).toNat = n := Nat.mod_eq_of_lt h
theorem g_and {a b c : Nat} (ha : a < 2 ^ 64) (hb : b < 2 ^ 64) (hc : a &&& b = c) : lN a &&& lN b = lN c := by
  subst hc
  have h : UInt64.ofNat a &&& UInt64.ofNat b = UInt64.ofNat (a &&& b) := UInt64.toNat_inj.mp (by rw [UInt64.toNat_and, u_tn ha, u_tn hb, u_tn (Nat.and_lt_two_pow a hb)])
  have h2 := congrArg UInt64.toInt64 h
  exact h2
theorem g_and1 {a : Nat} (ha : a < 2 ^ 64) : lN a &&& 1 = lN (a % 2) := g_and (b := 1) ha (by decide) (Nat.and_two_pow_sub_one_eq_mod a 1)
theorem g_mask {a s p : Nat} (hp : 2 ^ s = p) (hs : s < 64) (ha : a < 2 ^ 64) : lN a &&& lN (p - 1) = lN (a % p) := by
  subst hp
  have := Nat.pow_lt_pow_right (show 1 < 2 by decide) hs
  exact g_and ha (by omega) (Nat.and_two_pow_sub_one_eq_mod a s)
theorem g_or {k p a b : Nat} (hp : 2 ^ k = p) (ha : a < p) (h : b * p + a < 2 ^ 64) : lN (b * p) ||| lN a = lN (b * p + a) := by
  subst hp
  have h1 : b * 2 ^ k ||| a = b * 2 ^ k + a := by rw [← Nat.shiftLeft_eq, Nat.shiftLeft_add_eq_or_of_lt ha]
  have h3 : UInt64.ofNat (b * 2 ^ k) ||| UInt64.ofNat a = UInt64.ofNat (b * 2 ^ k + a) := UInt64.toNat_inj.mp (by rw [UInt64.toNat_or, u_tn (by omega), u_tn (by omega), u_tn h, h1])
  have h2 := congrArg UInt64.toInt64 h3
  exact h2
theorem g_or' {k p a b : Nat} (hp : 2 ^ k = p) (ha : a < p) (h : a + b * p < 2 ^ 64) : lN a ||| lN (b * p) = lN (a + b * p) := by
  rw [Int64.or_comm, g_or hp ha (by omega), Nat.add_comm]
theorem g_ushr {a k p : Nat} {y : UInt64} (hy : y = UInt64.ofNat k) (hk : k < 64) (hp : 2 ^ k = p) (ha : a < 2 ^ 64) : ((lN a).toUInt64 >>> y).toInt64 = lN (a / p) := by
  subst hy hp
  have h : UInt64.ofNat a >>> UInt64.ofNat k = UInt64.ofNat (a / 2 ^ k) := UInt64.toNat_inj.mp (by rw [UInt64.toNat_shiftRight, u_tn ha, u_tn (by omega), u_tn (Nat.lt_of_le_of_lt (Nat.div_le_self _ _) ha), Nat.mod_eq_of_lt hk, Nat.shiftRight_eq_div_pow])
  have h2 := congrArg UInt64.toInt64 h
  exact h2
theorem g_shl {a k p : Nat} {y : Int64} (hy : y.toBitVec.smod 64 = BitVec.ofNat 64 k) (hk : k < 64) (hp : 2 ^ k = p) (ha : a < 2 ^ 64) : lN a <<< y = lN (a * p) := by
  subst hp
  apply Int64.toBitVec_inj.mp
  rw [Int64.toBitVec_shiftLeft, hy]
  apply BitVec.eq_of_toNat_eq
  have hb : (lN a).toBitVec.toNat = a := Nat.mod_eq_of_lt ha
  have hk' : (BitVec.ofNat 64 k).toNat = k := Nat.mod_eq_of_lt (by omega)
  have h : ((lN a).toBitVec <<< BitVec.ofNat 64 k).toNat = (a * 2 ^ k) % 2 ^ 64 := by simp only [BitVec.shiftLeft_eq', BitVec.toNat_shiftLeft, hb, hk', Nat.shiftLeft_eq]
  exact h
/-! ===== lN to 2^62 under >> and >>> ===== -/
theorem pf_lI {a : Nat} (h : a < 2 ^ 63) : (lN a).toInt = (a : Int) := lg_ofNat_toInt h
theorem pf_shr {a d : Nat} {D : Int64} (hD : (D.toBitVec.smod 64).toNat = d) (h : a < 2 ^ 62) : lN a >>> D = lN (a / 2 ^ d) := by
  have hd : a / 2 ^ d ≤ a := Nat.div_le_self _ _
  apply Int64.toInt_inj.mp
  have e : (lN a >>> D).toInt = (lN a).toInt >>> d := by
    rw [← hD]
    exact BitVec.toInt_sshiftRight ..
  rw [e, Int.shiftRight_eq_div_pow, pf_lI (by omega), pf_lI (by omega)]
  rfl
theorem pf_ushr {a d : Nat} {D : UInt64} (hD : D.toNat % 64 = d) (h : a < 2 ^ 62) : ((lN a).toUInt64 >>> D).toInt64 = lN (a / 2 ^ d) := by
  have hd : a / 2 ^ d ≤ a := Nat.div_le_self _ _
  have e : (lN a).toUInt64 >>> D = UInt64.ofNat (a / 2 ^ d) := UInt64.toNat_inj.mp (by
    rw [UInt64.toNat_shiftRight, hD, Nat.shiftRight_eq_div_pow, UInt64.toNat_ofNat']
    show (UInt64.ofNat a).toNat / 2 ^ d = _
    rw [UInt64.toNat_ofNat', Nat.mod_eq_of_lt (by omega), Nat.mod_eq_of_lt (by omega)])
  rw [e]
  rfl
theorem pf_andw (x : Int64) : ∃ m, m < 2 ^ 32 ∧ x &&& 4294967295 = lN m := ⟨x.toBitVec.toNat % 2 ^ 32, Nat.mod_lt _ (by decide), Int64.toBitVec_inj.mp (BitVec.eq_of_toNat_eq (by
  show (x.toBitVec &&& 4294967295#64).toNat = (BitVec.ofNat 64 (x.toBitVec.toNat % 2 ^ 32)).toNat
  rw [BitVec.toNat_and, show (4294967295#64).toNat = 2 ^ 32 - 1 from by decide, Nat.and_two_pow_sub_one_eq_mod, BitVec.toNat_ofNat]
  omega))⟩
/-! ===== Int64 as an unsigned number: uN x ===== -/
def uN (x : Int64) : Nat := x.toUInt64.toNat
theorem uN_lt (x : Int64) : uN x < 18446744073709551616 := x.toUInt64.toNat_lt
theorem uN_inj {x y : Int64} (h : uN x = uN y) : x = y := congrArg UInt64.toInt64 (UInt64.toNat_inj.mp h)
theorem uN_add (x y : Int64) : uN (x + y) = (uN x + uN y) % 18446744073709551616 := by
  show (x.toUInt64 + y.toUInt64).toNat = _
  exact UInt64.toNat_add _ _
theorem uN_mul (x y : Int64) : uN (x * y) = (uN x * uN y) % 18446744073709551616 := by
  show (x.toUInt64 * y.toUInt64).toNat = _
  exact UInt64.toNat_mul _ _
theorem uN_shl (x : Int64) : uN (x <<< ((1 : Int32).toInt64 &&& 63)) = (2 * uN x) % 18446744073709551616 := by
  have h : (((1 : Int32).toInt64 &&& 63).toBitVec.smod 64).toNat = 1 := by decide
  show (x.toBitVec <<< (((1 : Int32).toInt64 &&& 63).toBitVec.smod 64).toNat).toNat = _
  rw [h, BitVec.toNat_shiftLeft, Nat.shiftLeft_eq, Nat.mul_comm]
  rfl
theorem uN_shr (x : Int64) (s : UInt64) : uN (x.toUInt64 >>> s).toInt64 = uN x / 2 ^ (s.toNat % 64) := by
  show (x.toUInt64 >>> s).toNat = _
  rw [UInt64.toNat_shiftRight, Nat.shiftRight_eq_div_pow]
  rfl
theorem uN_s32 (x : Int64) : uN (x.toUInt64 >>> ((32 : Int32).toInt64.toUInt64 &&& Int64.toUInt64 63)).toInt64 = uN x / 4294967296 := by
  have h : ((32 : Int32).toInt64.toUInt64 &&& Int64.toUInt64 63).toNat % 64 = 32 := by decide
  rw [uN_shr, h]
theorem uN_s63 (x : Int64) : uN (x.toUInt64 >>> ((63 : Int32).toInt64.toUInt64 &&& Int64.toUInt64 63)).toInt64 = uN x / 9223372036854775808 := by
  have h : ((63 : Int32).toInt64.toUInt64 &&& Int64.toUInt64 63).toNat % 64 = 63 := by decide
  rw [uN_shr, h]
theorem uN_lo (x : Int64) : uN (x &&& 4294967295) = uN x % 4294967296 := by
  show (x.toUInt64 &&& Int64.toUInt64 4294967295).toNat = _
  rw [UInt64.toNat_and]
  exact Nat.and_two_pow_sub_one_eq_mod _ 32
theorem uN_bit (x : Int64) : (x &&& 1) = 0 ↔ uN x % 2 = 0 := by
  have h : uN (x &&& 1) = uN x % 2 := by
    show (x.toUInt64 &&& Int64.toUInt64 1).toNat = _
    rw [UInt64.toNat_and]
    exact Nat.and_two_pow_sub_one_eq_mod _ 1
  rw [← h]
  exact ⟨fun z => by rw [z]; rfl, fun z => uN_inj (z.trans rfl)⟩
theorem uN_or {x y : Int64} (hy : uN y < 2) : uN ((x <<< ((1 : Int32).toInt64 &&& 63)) ||| y) = (2 * uN x) % 18446744073709551616 + uN y := by
  have h1 : uN ((x <<< ((1 : Int32).toInt64 &&& 63)) ||| y) = uN (x <<< ((1 : Int32).toInt64 &&& 63)) ||| uN y := UInt64.toNat_or _ _
  have h2 : (2 * uN x) % 18446744073709551616 = 2 ^ 1 * (uN x % 9223372036854775808) := by omega
  rw [h1, uN_shl, h2]
  exact (Nat.two_pow_add_eq_or_of_lt (i := 1) hy _).symm
theorem nat_xor {a : Nat} (h : a < 18446744073709551616) : a ^^^ 2 ^ 63 = (a + 9223372036854775808) % 18446744073709551616 := by
  have h1 : (a ^^^ 2 ^ 63) % 2 ^ 63 = a % 2 ^ 63 := by rw [Nat.xor_mod_two_pow, Nat.mod_self, Nat.xor_zero]
  have h2 : (a ^^^ 2 ^ 63) / 2 ^ 63 = (a / 2 ^ 63) ^^^ 1 := by rw [Nat.xor_div_two_pow, Nat.div_self (Nat.two_pow_pos 63)]
  have h3 : a / 2 ^ 63 = 0 ∨ a / 2 ^ 63 = 1 := by omega
  generalize a ^^^ 2 ^ 63 = t at h1 h2
  rcases h3 with h3 | h3
  · rw [h3] at h2
    have h2 : t / 2 ^ 63 = 1 := h2
    omega
  · rw [h3] at h2
    have h2 : t / 2 ^ 63 = 0 := h2
    omega
theorem uN_xor (x : Int64) : uN (x ^^^ (-9223372036854775808)) = (uN x + 9223372036854775808) % 18446744073709551616 := by
  rw [← nat_xor (uN_lt x)]
  exact UInt64.toNat_xor _ _
theorem uN_int (x : Int64) : x.toInt = if 2 * uN x < 18446744073709551616 then (uN x : Int) else (uN x : Int) - 18446744073709551616 := BitVec.toInt_eq_toNat_cond _
theorem uN_le (x y : Int64) : (x ^^^ (-9223372036854775808)) ≤ (y ^^^ (-9223372036854775808)) ↔ uN x ≤ uN y := by
  have hx := uN_lt x
  have hy := uN_lt y
  rw [Int64.le_iff_toInt_le, uN_int, uN_int, uN_xor, uN_xor]
  omega
theorem uN_sk (x : Int64) {k : Nat} (hk : k < 64) : uN (x.toUInt64 >>> ((nI k).toInt64.toUInt64 &&& Int64.toUInt64 63)).toInt64 = uN x / 2 ^ k := by
  have h : ((nI k).toInt64.toUInt64 &&& Int64.toUInt64 63).toNat % 64 = k := by
    rw [nI_l (by omega), UInt64.toNat_and]
    have e : (lN k).toUInt64.toNat = k % 2 ^ 64 := rfl
    have e2 : (Int64.toUInt64 63).toNat = 2 ^ 6 - 1 := by decide
    rw [e, e2, Nat.and_two_pow_sub_one_eq_mod]
    omega
  rw [uN_shr, h]
/-! ===== unsigned comparison by xor with the least ===== -/
theorem lN_bv (n : Nat) : (lN n).toBitVec = BitVec.ofNat 64 n := rfl
theorem lN_nat {n : Nat} (h : n < 2 ^ 64) : (lN n).toBitVec.toNat = n := by rw [lN_bv, BitVec.toNat_ofNat]; exact Nat.mod_eq_of_lt h
theorem lN_xor (a b : Nat) : lN a ^^^ lN b = lN (a ^^^ b) := by
  apply Int64.toBitVec_inj.mp; rw [Int64.toBitVec_xor, lN_bv, lN_bv, lN_bv]; apply BitVec.eq_of_getLsbD_eq; intro i hi; simp [BitVec.getLsbD_ofNat, Nat.testBit_xor, hi]
theorem lN_ti {m : Nat} (h : m < 2 ^ 64) : (lN m).toInt = if m < 2 ^ 63 then (m : Int) else (m : Int) - 2 ^ 64 := by
  have c := BitVec.toInt_eq_toNat_cond (lN m).toBitVec
  rw [lN_nat h] at c
  show (lN m).toBitVec.toInt = _
  rw [c]
  split <;> split <;> omega
theorem xor63 {x : Nat} (h : x < 2 ^ 63) : x ^^^ 2 ^ 63 = 2 ^ 63 + x := by
  apply Nat.eq_of_testBit_eq
  intro i
  rw [Nat.testBit_xor, Nat.testBit_two_pow]
  rcases Nat.lt_trichotomy i 63 with z | z | z
  · rw [Nat.testBit_two_pow_add_gt z, decide_eq_false (by omega)]; simp
  · subst z; rw [Nat.testBit_two_pow_add_eq]; simp
  · have hp : 2 ^ 64 ≤ 2 ^ i := Nat.pow_le_pow_right (by decide) z
    rw [Nat.testBit_lt_two_pow (show x < 2 ^ i by omega), Nat.testBit_lt_two_pow (show 2 ^ 63 + x < 2 ^ i by omega), decide_eq_false (by omega)]; rfl
theorem xorS {a : Nat} (h : a < 2 ^ 64) : (lN a ^^^ (-9223372036854775808)).toInt = (a : Int) - 2 ^ 63 := by
  rw [show (-9223372036854775808 : Int64) = lN (2 ^ 63) from by decide +kernel, lN_xor]
  rcases Nat.lt_or_ge a (2 ^ 63) with z | z
  · rw [xor63 z, lN_ti (by omega), if_neg (by omega)]; omega
  · obtain ⟨x, rfl⟩ : ∃ x, a = 2 ^ 63 + x := ⟨a - 2 ^ 63, by omega⟩
    rw [← xor63 (by omega), Nat.xor_assoc, Nat.xor_self, Nat.xor_zero, lN_ti (by omega), if_pos (by omega), xor63 (by omega)]; omega
theorem ultL {a b : Nat} (ha : a < 2 ^ 64) (hb : b < 2 ^ 64) : ((lN b ^^^ (-9223372036854775808)) ≤ (lN a ^^^ (-9223372036854775808))) ↔ b ≤ a := by
  rw [Int64.le_iff_toInt_le, xorS ha, xorS hb]; omega
/-! ===== Int64 masks of n low bits ===== -/
theorem cr_bits (W U M : BitVec 64) : ((W &&& U) &&& (U &&& (M ^^^ BitVec.allOnes 64))) = 0#64 ↔ (W &&& U) &&& M = W &&& U := by
  constructor
  · intro h
    apply BitVec.eq_of_getLsbD_eq
    intro i hi
    have e := congrArg (fun x => BitVec.getLsbD x i) h
    simp only [BitVec.getLsbD_and, BitVec.getLsbD_xor, BitVec.getLsbD_allOnes, BitVec.getLsbD_zero, hi, decide_true] at e ⊢
    revert e
    cases W.getLsbD i <;> cases U.getLsbD i <;> cases M.getLsbD i <;> decide
  · intro h
    apply BitVec.eq_of_getLsbD_eq
    intro i hi
    have e := congrArg (fun x => BitVec.getLsbD x i) h
    simp only [BitVec.getLsbD_and, BitVec.getLsbD_xor, BitVec.getLsbD_allOnes, BitVec.getLsbD_zero, hi, decide_true] at e ⊢
    revert e
    cases W.getLsbD i <;> cases U.getLsbD i <;> cases M.getLsbD i <;> decide
theorem cr_mask (w U m : Int64) (n : Nat) (hm : m.toBitVec.toNat = 2 ^ n - 1) : ((w &&& U) &&& (U &&& (m ^^^ (-1)))) = 0 ↔ (w &&& U).toBitVec.toNat < 2 ^ n := by
  have e0 : (-1 : Int64).toBitVec = BitVec.allOnes 64 := by decide
  have z0 : (0 : Int64).toBitVec = 0#64 := by decide
  rw [← Int64.toBitVec_inj, z0, Int64.toBitVec_and, Int64.toBitVec_and, Int64.toBitVec_and, Int64.toBitVec_xor, e0, cr_bits]
  generalize w.toBitVec &&& U.toBitVec = T
  rw [← BitVec.toNat_inj, BitVec.toNat_and, hm, Nat.and_two_pow_sub_one_eq_mod]
  constructor
  · intro h
    have t := Nat.mod_lt T.toNat (Nat.two_pow_pos n)
    rw [h] at t
    exact t
  · exact Nat.mod_eq_of_lt
theorem cr_shr (t : Int64) (x : UInt64) (n : Nat) (hx : x.toNat % 64 = n) : (t.toUInt64 >>> x).toInt64 = 0 ↔ t.toBitVec.toNat < 2 ^ n := by
  rw [← Int64.toBitVec_inj, ← BitVec.toNat_inj]
  show (t.toUInt64 >>> x).toNat = 0 ↔ t.toUInt64.toNat < 2 ^ n
  rw [UInt64.toNat_shiftRight, hx, Nat.shiftRight_eq_div_pow]
  constructor
  · intro h
    have d : t.toUInt64.toNat / 2 ^ n < 1 := by
      rw [h]
      decide
    have e := (Nat.div_lt_iff_lt_mul (Nat.two_pow_pos n)).mp d
    rw [Nat.one_mul] at e
    exact e
  · exact Nat.div_eq_of_lt
theorem cr_amt (s : Int64) : ∃ n, n < 64 ∧ s &&& 63 = lN n ∧ (s.toUInt64 &&& Int64.toUInt64 63).toNat % 64 = n := by
  have e : (s.toUInt64 &&& Int64.toUInt64 63).toNat = s.toUInt64.toNat % 2 ^ 6 := by
    rw [UInt64.toNat_and, show (Int64.toUInt64 63).toNat = 2 ^ 6 - 1 from by decide, Nat.and_two_pow_sub_one_eq_mod]
  refine ⟨s.toUInt64.toNat % 2 ^ 6, by omega, ?_, by omega⟩
  rw [← Int64.toBitVec_inj, ← BitVec.toNat_inj]
  show (s.toUInt64 &&& Int64.toUInt64 63).toNat = (BitVec.ofNat 64 (s.toUInt64.toNat % 2 ^ 6)).toNat
  rw [e, BitVec.toNat_ofNat]
  omega
end
section
/-! sums of the values below n, and forest sums by elimination -/
def cf_S : Nat → (Nat → Int) → Int
  | 0, _ => 0
  | n + 1, f => cf_S n f + f n
theorem cf_S_congr {n : Nat} {f g : Nat → Int} (h : ∀ k, k < n → f k = g k) : cf_S n f = cf_S n g := by
  induction n with
  | zero => rfl
  | succ n ih =>
    show cf_S n f + f n = cf_S n g + g n
    rw [ih (fun k hk => h k (by omega)), h n (by omega)]
theorem cf_S_add (n : Nat) (f g : Nat → Int) : cf_S n (fun k => f k + g k) = cf_S n f + cf_S n g := by
  induction n with
  | zero => rfl
  | succ n ih =>
    show cf_S n (fun k => f k + g k) + (f n + g n) = (cf_S n f + f n) + (cf_S n g + g n)
    rw [ih]; omega
theorem cf_S_sub (n : Nat) (f g : Nat → Int) : cf_S n (fun k => f k - g k) = cf_S n f - cf_S n g := by
  induction n with
  | zero => rfl
  | succ n ih =>
    show cf_S n (fun k => f k - g k) + (f n - g n) = (cf_S n f + f n) - (cf_S n g + g n)
    rw [ih]; omega
theorem cf_S_mul (n : Nat) (c : Int) (f : Nat → Int) : cf_S n (fun k => c * f k) = c * cf_S n f := by
  induction n with
  | zero => exact (Int.mul_zero c).symm
  | succ n ih =>
    show cf_S n (fun k => c * f k) + c * f n = c * (cf_S n f + f n)
    rw [ih, Int.mul_add]
theorem cf_S_mulr (n : Nat) (c : Int) (f : Nat → Int) : cf_S n (fun k => f k * c) = cf_S n f * c := by
  rw [Int.mul_comm, ← cf_S_mul]; exact cf_S_congr (fun k _ => Int.mul_comm _ _)
theorem cf_S_zero (n : Nat) : cf_S n (fun _ => 0) = 0 := by
  induction n with
  | zero => rfl
  | succ n ih => show cf_S n (fun _ => 0) + 0 = 0; rw [ih]; rfl
theorem cf_S_z {n : Nat} {f : Nat → Int} (h : ∀ k, k < n → f k = 0) : cf_S n f = 0 := by
  rw [cf_S_congr h, cf_S_zero]
theorem cf_S_comm (n m : Nat) (f : Nat → Nat → Int) : cf_S n (fun i => cf_S m (fun j => f i j)) = cf_S m (fun j => cf_S n (fun i => f i j)) := by
  induction n with
  | zero => exact (cf_S_zero m).symm
  | succ n ih =>
    show cf_S n (fun i => cf_S m (fun j => f i j)) + cf_S m (fun j => f n j) = cf_S m (fun j => cf_S n (fun i => f i j) + f n j)
    rw [ih, cf_S_add]
theorem cf_S_le {n : Nat} {f g : Nat → Int} (h : ∀ k, k < n → f k ≤ g k) : cf_S n f ≤ cf_S n g := by
  induction n with
  | zero => exact Int.le_refl _
  | succ n ih =>
    show cf_S n f + f n ≤ cf_S n g + g n
    have h1 := ih (fun k hk => h k (by omega))
    have h2 := h n (by omega)
    omega
theorem cf_S_nn {n : Nat} {f : Nat → Int} (h : ∀ k, k < n → 0 ≤ f k) : 0 ≤ cf_S n f := by
  have h1 := cf_S_le (n := n) (f := fun _ => 0) (g := f) h
  rw [cf_S_zero] at h1; exact h1
theorem cf_S_all0 {n : Nat} {f : Nat → Int} (h : ∀ k, k < n → 0 ≤ f k) (h0 : cf_S n f = 0) : ∀ k, k < n → f k = 0 := by
  induction n with
  | zero => intro k hk; omega
  | succ n ih =>
    have h1 : cf_S n f + f n = 0 := h0
    have h2 := cf_S_nn (n := n) (f := f) (fun k hk => h k (by omega))
    have h3 := h n (by omega)
    intro k hk
    by_cases e : k = n
    · subst e; omega
    · exact ih (fun k hk => h k (by omega)) (by omega) k (by omega)
theorem cf_S_lt {n : Nat} {f g : Nat → Int} (h : ∀ k, k < n → f k ≤ g k) (h0 : cf_S n f = cf_S n g) : ∀ k, k < n → f k = g k := by
  intro k hk
  have h1 := cf_S_all0 (n := n) (f := fun k => g k - f k) (fun k hk => by have := h k hk; omega) (by rw [cf_S_sub]; omega) k hk
  have h2 : g k - f k = 0 := h1
  omega
theorem cf_S_anti (n : Nat) (f : Nat → Nat → Int) (h : ∀ a b, f a b = - f b a) : cf_S n (fun a => cf_S n (fun b => f a b)) = 0 := by
  have h1 := cf_S_comm n n f
  have h2 : cf_S n (fun j => cf_S n (fun i => f i j)) = cf_S n (fun j => (-1) * cf_S n (fun i => f j i)) := by
    refine cf_S_congr (fun j _ => ?_)
    rw [← cf_S_mul]
    refine cf_S_congr (fun i _ => ?_)
    rw [h i j]; omega
  rw [cf_S_mul] at h2
  omega
/-- the forest sum over root maps -/
def cf_E (b : Nat → Nat) (t : Nat → Nat → Nat) (w : Nat → Nat → Int) : List Nat → ((Nat → Nat) → Int) → Int
  | [], ψ => ψ (fun x => x)
  | s :: L, ψ => cf_S (b s) (fun k => w s k * cf_E b t w L (fun ρ => if ρ (t s k) = s then 0 else ψ (fun x => if ρ x = s then ρ (t s k) else ρ x)))
def cf_Inv (L : List Nat) (ρ : Nat → Nat) : Prop := (∀ x, x ∉ L → ρ x = x) ∧ (∀ x, ρ x ∉ L)
theorem cf_Inv_cons {s : Nat} {L : List Nat} {ρ : Nat → Nat} {y : Nat} (h : cf_Inv L ρ) (hy : ρ y ≠ s) : cf_Inv (s :: L) (fun x => if ρ x = s then ρ y else ρ x) := by
  refine ⟨fun x hx => ?_, fun x => ?_⟩
  · have h1 : x ≠ s ∧ x ∉ L := ⟨fun e => hx (e ▸ List.mem_cons_self), fun e => hx (List.mem_cons_of_mem _ e)⟩
    show (if ρ x = s then ρ y else ρ x) = x
    rw [h.1 x h1.2, if_neg h1.1]
  · show (if ρ x = s then ρ y else ρ x) ∉ s :: L
    intro hm
    by_cases e : ρ x = s
    · rw [if_pos e] at hm
      rcases List.mem_cons.mp hm with h1 | h1
      · exact hy h1
      · exact h.2 y h1
    · rw [if_neg e] at hm
      rcases List.mem_cons.mp hm with h1 | h1
      · exact e h1
      · exact h.2 x h1
section
variable {b : Nat → Nat} {t : Nat → Nat → Nat} {w : Nat → Nat → Int}
theorem cf_E_congr : ∀ (L : List Nat) {ψ φ : (Nat → Nat) → Int}, (∀ ρ, cf_Inv L ρ → ψ ρ = φ ρ) → cf_E b t w L ψ = cf_E b t w L φ := by
  intro L
  induction L with
  | nil => intro ψ φ h; exact h _ ⟨fun _ _ => rfl, fun x hx => by cases hx⟩
  | cons s L ih =>
    intro ψ φ h
    refine cf_S_congr (fun k _ => ?_)
    refine congrArg (w s k * ·) (ih (fun ρ hρ => ?_))
    by_cases e : ρ (t s k) = s
    · rw [if_pos e, if_pos e]
    · rw [if_neg e, if_neg e]; exact h _ (cf_Inv_cons hρ e)
theorem cf_E_ext (L : List Nat) {ψ φ : (Nat → Nat) → Int} (h : ∀ ρ, ψ ρ = φ ρ) : cf_E b t w L ψ = cf_E b t w L φ := cf_E_congr L (fun ρ _ => h ρ)
theorem cf_E_add : ∀ (L : List Nat) (ψ φ : (Nat → Nat) → Int), cf_E b t w L (fun ρ => ψ ρ + φ ρ) = cf_E b t w L ψ + cf_E b t w L φ := by
  intro L
  induction L with
  | nil => intro ψ φ; rfl
  | cons s L ih =>
    intro ψ φ
    show cf_S (b s) _ = cf_S (b s) _ + cf_S (b s) _
    rw [← cf_S_add]
    refine cf_S_congr (fun k _ => ?_)
    rw [← Int.mul_add, ← ih]
    refine congrArg (w s k * ·) (cf_E_ext L (fun ρ => ?_))
    by_cases e : ρ (t s k) = s
    · simp only [if_pos e]; rfl
    · simp only [if_neg e]
theorem cf_E_mul : ∀ (L : List Nat) (c : Int) (ψ : (Nat → Nat) → Int), cf_E b t w L (fun ρ => c * ψ ρ) = c * cf_E b t w L ψ := by
  intro L
  induction L with
  | nil => intro c ψ; rfl
  | cons s L ih =>
    intro c ψ
    show cf_S (b s) _ = c * cf_S (b s) _
    rw [← cf_S_mul]
    refine cf_S_congr (fun k _ => ?_)
    rw [Int.mul_left_comm]
    refine congrArg (w s k * ·) (Eq.trans (cf_E_ext L (fun ρ => ?_)) (ih c _))
    by_cases e : ρ (t s k) = s
    · simp only [if_pos e]; exact (Int.mul_zero c).symm
    · simp only [if_neg e]
theorem cf_E_mulr (L : List Nat) (c : Int) (ψ : (Nat → Nat) → Int) : cf_E b t w L (fun ρ => ψ ρ * c) = cf_E b t w L ψ * c := by
  rw [Int.mul_comm, ← cf_E_mul]; exact cf_E_ext L (fun ρ => Int.mul_comm _ _)
theorem cf_E_sub (L : List Nat) (ψ φ : (Nat → Nat) → Int) : cf_E b t w L (fun ρ => ψ ρ - φ ρ) = cf_E b t w L ψ - cf_E b t w L φ := by
  have h1 : cf_E b t w L (fun ρ => ψ ρ - φ ρ) = cf_E b t w L (fun ρ => ψ ρ + (-1) * φ ρ) := cf_E_ext L (fun ρ => by omega)
  rw [h1, cf_E_add, cf_E_mul]; omega
theorem cf_E_neg (L : List Nat) (ψ : (Nat → Nat) → Int) : cf_E b t w L (fun ρ => - ψ ρ) = - cf_E b t w L ψ := by
  have h1 : cf_E b t w L (fun ρ => - ψ ρ) = cf_E b t w L (fun ρ => (-1) * ψ ρ) := cf_E_ext L (fun ρ => by omega)
  rw [h1, cf_E_mul]; omega
theorem cf_E_zero (L : List Nat) : cf_E b t w L (fun _ => 0) = 0 := by
  have h := cf_E_mul (b := b) (t := t) (w := w) L 0 (fun _ => 0)
  exact (cf_E_ext L (fun _ => (Int.zero_mul 0).symm)).trans (h.trans (Int.zero_mul _))
theorem cf_E_z (L : List Nat) {ψ : (Nat → Nat) → Int} (h : ∀ ρ, cf_Inv L ρ → ψ ρ = 0) : cf_E b t w L ψ = 0 := by
  rw [cf_E_congr L h, cf_E_zero]
theorem cf_E_le : ∀ (L : List Nat) {ψ φ : (Nat → Nat) → Int}, (∀ s, s ∈ L → ∀ k, k < b s → 0 ≤ w s k) → (∀ ρ, cf_Inv L ρ → ψ ρ ≤ φ ρ) → cf_E b t w L ψ ≤ cf_E b t w L φ := by
  intro L
  induction L with
  | nil => intro ψ φ _ h; exact h _ ⟨fun _ _ => rfl, fun x hx => by cases hx⟩
  | cons s L ih =>
    intro ψ φ hw h
    refine cf_S_le (fun k hk => ?_)
    refine Int.mul_le_mul_of_nonneg_left (ih (fun s hs => hw s (List.mem_cons_of_mem _ hs)) (fun ρ hρ => ?_)) (hw s List.mem_cons_self k hk)
    by_cases e : ρ (t s k) = s
    · rw [if_pos e, if_pos e]; exact Int.le_refl _
    · rw [if_neg e, if_neg e]; exact h _ (cf_Inv_cons hρ e)
theorem cf_E_nn (L : List Nat) {ψ : (Nat → Nat) → Int} (hw : ∀ s, s ∈ L → ∀ k, k < b s → 0 ≤ w s k) (h : ∀ ρ, cf_Inv L ρ → 0 ≤ ψ ρ) : 0 ≤ cf_E b t w L ψ := by
  have h1 := cf_E_le (b := b) (t := t) (w := w) L (ψ := fun _ => 0) hw h
  rw [cf_E_zero] at h1; exact h1
/-- at the head -/
theorem cf_E_cons (s : Nat) (L : List Nat) (ψ : (Nat → Nat) → Int) : cf_E b t w (s :: L) ψ = cf_S (b s) (fun k => w s k * cf_E b t w L (fun ρ => if ρ (t s k) = s then 0 else ψ (fun x => if ρ x = s then ρ (t s k) else ρ x))) := rfl
theorem cf_swap_fn (ψ : (Nat → Nat) → Int) (ρ : Nat → Nat) {s r : Nat} (hs : s ≠ r) (x y : Nat) :
    (if ρ y = r then (0 : Int) else if (if ρ x = r then ρ y else ρ x) = s then 0 else ψ (fun z => if (if ρ z = r then ρ y else ρ z) = s then (if ρ x = r then ρ y else ρ x) else (if ρ z = r then ρ y else ρ z)))
    = (if ρ x = s then (0 : Int) else if (if ρ y = s then ρ x else ρ y) = r then 0 else ψ (fun z => if (if ρ z = s then ρ x else ρ z) = r then (if ρ y = s then ρ x else ρ y) else (if ρ z = s then ρ x else ρ z))) := by
  have hs' : ¬ r = s := fun e => hs e.symm
  generalize ρ x = A
  generalize ρ y = B
  by_cases h1 : B = r
  · subst h1
    rw [if_pos rfl]
    by_cases h2 : A = s
    · rw [if_pos h2]
    · rw [if_neg h2, if_neg hs', if_pos rfl]
  · rw [if_neg h1]
    by_cases h2 : A = s
    · subst h2
      rw [if_neg hs, if_pos rfl, if_pos rfl]
    · rw [if_neg h2]
      by_cases h3 : A = r
      · rw [if_pos h3]
        by_cases h4 : B = s
        · rw [if_pos h4, if_pos h4, if_pos h3]
        · rw [if_neg h4, if_neg h4, if_neg h1]
          refine congrArg ψ (funext (fun z => ?_))
          by_cases h5 : ρ z = r
          · rw [if_pos h5, if_neg h4, h5, if_neg hs', if_pos rfl]
          · rw [if_neg h5]
            by_cases h6 : ρ z = s
            · rw [if_pos h6, if_pos h6, if_pos h3]
            · rw [if_neg h6, if_neg h6, if_neg h5]
      · rw [if_neg h3, if_neg h2]
        by_cases h4 : B = s
        · rw [if_pos h4, if_neg h3]
          refine congrArg ψ (funext (fun z => ?_))
          by_cases h5 : ρ z = r
          · rw [if_pos h5, if_pos h4, h5, if_neg hs', if_pos rfl]
          · rw [if_neg h5]
            by_cases h6 : ρ z = s
            · rw [if_pos h6, if_neg h3]
            · rw [if_neg h6, if_neg h5]
        · rw [if_neg h4, if_neg h1]
          refine congrArg ψ (funext (fun z => ?_))
          by_cases h5 : ρ z = r
          · rw [if_pos h5, if_neg h4, h5, if_neg hs', if_pos rfl]
          · rw [if_neg h5]
            by_cases h6 : ρ z = s
            · rw [if_pos h6, if_neg h3]
            · rw [if_neg h6, if_neg h5]
theorem cf_E_swap (s r : Nat) (L : List Nat) (ψ : (Nat → Nat) → Int) : cf_E b t w (s :: r :: L) ψ = cf_E b t w (r :: s :: L) ψ := by
  by_cases hs : s = r
  · rw [hs]
  · have h1 : cf_E b t w (s :: r :: L) ψ = cf_S (b s) (fun k => cf_S (b r) (fun j => w s k * (w r j * cf_E b t w L (fun ρ => if ρ (t r j) = r then (0 : Int) else if (if ρ (t s k) = r then ρ (t r j) else ρ (t s k)) = s then 0 else ψ (fun z => if (if ρ z = r then ρ (t r j) else ρ z) = s then (if ρ (t s k) = r then ρ (t r j) else ρ (t s k)) else (if ρ z = r then ρ (t r j) else ρ z)))))) := by
      rw [cf_E_cons]
      refine cf_S_congr (fun k _ => ?_)
      rw [cf_E_cons, cf_S_mul]
    have h2 : cf_E b t w (r :: s :: L) ψ = cf_S (b r) (fun j => cf_S (b s) (fun k => w r j * (w s k * cf_E b t w L (fun ρ => if ρ (t s k) = s then (0 : Int) else if (if ρ (t r j) = s then ρ (t s k) else ρ (t r j)) = r then 0 else ψ (fun z => if (if ρ z = s then ρ (t s k) else ρ z) = r then (if ρ (t r j) = s then ρ (t s k) else ρ (t r j)) else (if ρ z = s then ρ (t s k) else ρ z)))))) := by
      rw [cf_E_cons]
      refine cf_S_congr (fun k _ => ?_)
      rw [cf_E_cons, cf_S_mul]
    rw [h1, h2, cf_S_comm]
    refine cf_S_congr (fun j _ => cf_S_congr (fun k _ => ?_))
    rw [Int.mul_left_comm]
    refine congrArg (w r j * ·) (congrArg (w s k * ·) (cf_E_ext L (fun ρ => ?_)))
    exact cf_swap_fn ψ ρ hs (t s k) (t r j)
theorem cf_E_perm {L K : List Nat} (h : L.Perm K) : ∀ (ψ : (Nat → Nat) → Int), cf_E b t w L ψ = cf_E b t w K ψ := by
  induction h with
  | nil => intro ψ; rfl
  | cons s _ ih =>
    intro ψ
    rw [cf_E_cons, cf_E_cons]
    refine cf_S_congr (fun k _ => ?_)
    rw [ih]
  | swap s r L => intro ψ; exact cf_E_swap r s L ψ
  | trans _ _ ih1 ih2 => intro ψ; rw [ih1, ih2]
end
end
section
/-! forest sums: harmonic, superharmonic, Bareiss's identity, positive, bounded -/
section
variable {b : Nat → Nat} {t : Nat → Nat → Nat} {w : Nat → Nat → Int}
theorem cf_harm0 (i : Nat) (L : List Nat) (hi : i ∉ L) (h : Nat → Int) :
    cf_S (b i) (w i) * cf_E b t w (i :: L) (fun ρ => h (ρ i)) = cf_S (b i) (fun a => w i a * cf_E b t w (i :: L) (fun ρ => h (ρ (t i a)))) := by
  have h1 : cf_E b t w (i :: L) (fun ρ => h (ρ i)) = cf_S (b i) (fun k => w i k * cf_E b t w L (fun ρ => if ρ (t i k) = i then 0 else h (ρ (t i k)))) := by
    rw [cf_E_cons]
    refine cf_S_congr (fun k _ => congrArg (w i k * ·) (cf_E_congr L (fun ρ hρ => ?_)))
    have e := hρ.1 i hi
    dsimp only
    rw [e, if_pos rfl]
  have h2 : ∀ a, cf_E b t w (i :: L) (fun ρ => h (ρ (t i a))) = cf_S (b i) (fun k => w i k * cf_E b t w L (fun ρ => if ρ (t i k) = i then 0 else h (if ρ (t i a) = i then ρ (t i k) else ρ (t i a)))) := fun a => rfl
  have h3 : cf_S (b i) (fun a => cf_S (b i) (fun k => w i a * w i k * cf_E b t w L (fun ρ => if ρ (t i k) = i then 0 else if ρ (t i a) = i then 0 else h (ρ (t i k)) - h (ρ (t i a))))) = 0 := by
    refine cf_S_anti _ _ (fun a k => ?_)
    have e : cf_E b t w L (fun ρ => if ρ (t i k) = i then 0 else if ρ (t i a) = i then 0 else h (ρ (t i k)) - h (ρ (t i a))) = - cf_E b t w L (fun ρ => if ρ (t i a) = i then 0 else if ρ (t i k) = i then 0 else h (ρ (t i a)) - h (ρ (t i k))) := by
      rw [← cf_E_neg]
      refine cf_E_ext L (fun ρ => ?_)
      by_cases e1 : ρ (t i k) = i
      · by_cases e2 : ρ (t i a) = i
        · rw [if_pos e1, if_pos e2]; rfl
        · rw [if_pos e1, if_neg e2, if_pos e1]; rfl
      · by_cases e2 : ρ (t i a) = i
        · rw [if_neg e1, if_pos e2, if_pos e2]; rfl
        · rw [if_neg e1, if_neg e2, if_neg e2, if_neg e1]; omega
    rw [e, Int.mul_neg, Int.mul_comm (w i a) (w i k)]
  have h4 : ∀ a, cf_S (b i) (fun k => w i a * w i k * cf_E b t w L (fun ρ => if ρ (t i k) = i then 0 else if ρ (t i a) = i then 0 else h (ρ (t i k)) - h (ρ (t i a)))) = w i a * cf_E b t w (i :: L) (fun ρ => h (ρ i)) - w i a * cf_E b t w (i :: L) (fun ρ => h (ρ (t i a))) := by
    intro a
    rw [h1, h2, ← cf_S_mul, ← cf_S_mul, ← cf_S_sub]
    refine cf_S_congr (fun k _ => ?_)
    rw [Int.mul_assoc, ← Int.mul_sub, ← Int.mul_sub, ← cf_E_sub]
    refine congrArg (w i a * ·) (congrArg (w i k * ·) (cf_E_ext L (fun ρ => ?_)))
    by_cases e1 : ρ (t i k) = i
    · rw [if_pos e1, if_pos e1, if_pos e1]; rfl
    · rw [if_neg e1, if_neg e1, if_neg e1]
      by_cases e2 : ρ (t i a) = i
      · rw [if_pos e2, if_pos e2]; omega
      · rw [if_neg e2, if_neg e2]
  rw [cf_S_congr (fun a _ => h4 a), cf_S_sub, cf_S_mulr] at h3
  omega
theorem cf_harm (L : List Nat) (hn : L.Nodup) (i : Nat) (hi : i ∈ L) (h : Nat → Int) :
    cf_S (b i) (w i) * cf_E b t w L (fun ρ => h (ρ i)) = cf_S (b i) (fun a => w i a * cf_E b t w L (fun ρ => h (ρ (t i a)))) := by
  have hp := List.perm_cons_erase hi
  rw [cf_E_perm hp, cf_harm0 i _ hn.not_mem_erase h]
  exact cf_S_congr (fun a _ => congrArg (w i a * ·) (cf_E_perm hp _).symm)
end
def cf_D (b : Nat → Nat) (t : Nat → Nat → Nat) (w : Nat → Nat → Int) (L : List Nat) : Int := cf_E b t w L (fun _ => 1)
def cf_Pos (b : Nat → Nat) (t : Nat → Nat → Nat) (w : Nat → Nat → Int) : List Nat → Prop
  | [] => True
  | s :: L => 0 < cf_D b t w (s :: L) ∧ cf_Pos b t w L
/-- h is superharmonic on L -/
def cf_Sup (b : Nat → Nat) (t : Nat → Nat → Nat) (w : Nat → Nat → Int) (L : List Nat) (h : Nat → Int) : Prop :=
  ∀ i, i ∈ L → cf_S (b i) (fun a => w i a * h (t i a)) ≤ cf_S (b i) (w i) * h i
section
variable {b : Nat → Nat} {t : Nat → Nat → Nat} {w : Nat → Nat → Int}
theorem cf_Pos_D {L : List Nat} (h : cf_Pos b t w L) : 0 < cf_D b t w L := by
  cases L with
  | nil => exact (by decide : (0 : Int) < 1)
  | cons s L => exact h.1
theorem cf_E_const (L : List Nat) (c : Int) : cf_E b t w L (fun _ => c) = cf_D b t w L * c := by
  unfold cf_D
  rw [← cf_E_mulr]
  exact cf_E_ext L (fun _ => (Int.one_mul c).symm)
theorem cf_E_root (L : List Nat) (h : Nat → Int) {x : Nat} (hx : x ∉ L) : cf_E b t w L (fun ρ => h (ρ x)) = cf_D b t w L * h x := by
  rw [← cf_E_const]
  exact cf_E_congr L (fun ρ hρ => congrArg h (hρ.1 x hx))
theorem cf_split (L : List Nat) (h : Nat → Int) (s x : Nat) : cf_E b t w L (fun ρ => h (ρ x)) = cf_E b t w L (fun ρ => if ρ x = s then 1 else 0) * h s + cf_E b t w L (fun ρ => if ρ x = s then 0 else h (ρ x)) := by
  rw [← cf_E_mulr, ← cf_E_add]
  refine cf_E_ext L (fun ρ => ?_)
  by_cases e : ρ x = s
  · rw [if_pos e, if_pos e, e]; omega
  · rw [if_neg e, if_neg e]; omega
theorem cf_eq_of (L : List Nat) (sup : ∀ h, cf_Sup b t w L h → ∀ x, cf_E b t w L (fun ρ => h (ρ x)) ≤ cf_D b t w L * h x)
    (h : Nat → Int) (hh : ∀ i, i ∈ L → cf_S (b i) (w i) * h i = cf_S (b i) (fun a => w i a * h (t i a))) (x : Nat) :
    cf_E b t w L (fun ρ => h (ρ x)) = cf_D b t w L * h x := by
  have h1 := sup h (fun i hi => Int.le_of_eq (hh i hi).symm) x
  have h2 := sup (fun y => - h y) (fun i hi => by
    have e : cf_S (b i) (fun a => w i a * (- h (t i a))) = (-1) * cf_S (b i) (fun a => w i a * h (t i a)) := by
      rw [← cf_S_mul]
      exact cf_S_congr (fun a _ => by rw [Int.mul_neg, Int.neg_mul, Int.one_mul])
    show cf_S (b i) (fun a => w i a * (- h (t i a))) ≤ cf_S (b i) (w i) * (- h i)
    rw [e, Int.mul_neg, hh i hi]; omega) x
  have h3 : - cf_E b t w L (fun ρ => h (ρ x)) ≤ cf_D b t w L * (- h x) := by
    rw [← cf_E_neg]; exact h2
  rw [Int.mul_neg] at h3
  omega
theorem cf_bar_of (s : Nat) (L : List Nat) (hn : (s :: L).Nodup) (sup : ∀ h, cf_Sup b t w L h → ∀ x, cf_E b t w L (fun ρ => h (ρ x)) ≤ cf_D b t w L * h x)
    (h : Nat → Int) (x : Nat) :
    cf_D b t w L * cf_E b t w (s :: L) (fun ρ => h (ρ x)) = cf_E b t w L (fun ρ => if ρ x = s then 1 else 0) * cf_E b t w (s :: L) (fun ρ => h (ρ s)) + cf_D b t w (s :: L) * cf_E b t w L (fun ρ => if ρ x = s then 0 else h (ρ x)) := by
  have h1 := cf_eq_of L sup (fun y => cf_E b t w (s :: L) (fun ρ => h (ρ y))) (fun i hi => cf_harm (s :: L) hn i (List.mem_cons_of_mem _ hi) h) x
  have h2 : cf_E b t w L (fun ρ => cf_E b t w (s :: L) (fun σ => h (σ (ρ x)))) = cf_E b t w L (fun ρ => (if ρ x = s then 1 else 0) * cf_E b t w (s :: L) (fun ρ => h (ρ s)) + cf_D b t w (s :: L) * (if ρ x = s then 0 else h (ρ x))) := by
    refine cf_E_congr L (fun ρ hρ => ?_)
    by_cases e : ρ x = s
    · rw [if_pos e, if_pos e, e]; omega
    · rw [if_neg e, if_neg e, cf_E_root (s :: L) h]
      · omega
      · intro hm
        rcases List.mem_cons.mp hm with h3 | h3
        · exact e h3
        · exact hρ.2 x h3
  rw [cf_E_add, cf_E_mulr, cf_E_mul] at h2
  exact h1.symm.trans h2
theorem cf_sup_s (s : Nat) (L : List Nat) (hn : (s :: L).Nodup) (hw : ∀ s', s' ∈ s :: L → ∀ k, k < b s' → 0 ≤ w s' k) (hD : 0 < cf_D b t w L)
    (sup : ∀ h, cf_Sup b t w L h → ∀ x, cf_E b t w L (fun ρ => h (ρ x)) ≤ cf_D b t w L * h x)
    (h : Nat → Int) (hh : cf_Sup b t w (s :: L) h) : cf_E b t w (s :: L) (fun ρ => h (ρ s)) ≤ cf_D b t w (s :: L) * h s := by
  have hs : s ∉ L := (List.nodup_cons.mp hn).1
  have h0 : ∀ x, cf_E b t w L (fun ρ => h (ρ x)) ≤ cf_D b t w L * h x := sup h (fun i hi => hh i (List.mem_cons_of_mem _ hi))
  have h1 : cf_E b t w (s :: L) (fun ρ => h (ρ s)) = cf_S (b s) (fun k => w s k * cf_E b t w L (fun ρ => if ρ (t s k) = s then 0 else h (ρ (t s k)))) := by
    rw [cf_E_cons]
    refine cf_S_congr (fun k _ => congrArg (w s k * ·) (cf_E_congr L (fun ρ hρ => ?_)))
    have e := hρ.1 s hs
    dsimp only
    rw [e, if_pos rfl]
  have h2 : cf_S (b s) (fun k => w s k * cf_E b t w L (fun ρ => if ρ (t s k) = s then 0 else h (ρ (t s k)))) ≤ cf_S (b s) (fun k => w s k * h (t s k) * cf_D b t w L - w s k * cf_E b t w L (fun ρ => if ρ (t s k) = s then 1 else 0) * h s) := by
    refine cf_S_le (fun k hk => ?_)
    have e1 := cf_split (b := b) (t := t) (w := w) L h s (t s k)
    have e2 := h0 (t s k)
    rw [Int.mul_assoc, Int.mul_assoc, ← Int.mul_sub]
    refine Int.mul_le_mul_of_nonneg_left ?_ (hw s List.mem_cons_self k hk)
    rw [Int.mul_comm (h (t s k))]
    omega
  have h3 : cf_D b t w (s :: L) = cf_S (b s) (w s) * cf_D b t w L - cf_S (b s) (fun k => w s k * cf_E b t w L (fun ρ => if ρ (t s k) = s then 1 else 0)) := by
    rw [← cf_S_mulr, ← cf_S_sub]
    refine cf_S_congr (fun k _ => ?_)
    rw [← Int.mul_sub]
    refine congrArg (w s k * ·) ?_
    unfold cf_D
    rw [← cf_E_sub]
    refine cf_E_ext L (fun ρ => ?_)
    by_cases e : ρ (t s k) = s
    · rw [if_pos e, if_pos e]; rfl
    · rw [if_neg e, if_neg e]; rfl
  rw [h1, h3, Int.sub_mul]
  rw [cf_S_sub, cf_S_mulr, cf_S_mulr] at h2
  have h4 := hh s List.mem_cons_self
  have h5 := Int.mul_le_mul_of_nonneg_right h4 (Int.le_of_lt hD)
  rw [Int.mul_assoc, Int.mul_comm (h s), ← Int.mul_assoc] at h5
  omega
theorem cf_super : ∀ (L : List Nat), L.Nodup → (∀ s, s ∈ L → ∀ k, k < b s → 0 ≤ w s k) → cf_Pos b t w L → ∀ h, cf_Sup b t w L h → ∀ x, cf_E b t w L (fun ρ => h (ρ x)) ≤ cf_D b t w L * h x := by
  intro L
  induction L with
  | nil => intro _ _ _ h _ x; show h x ≤ 1 * h x; omega
  | cons s L ih =>
    intro hn hw hp h hh x
    have hD := cf_Pos_D hp.2
    have hD' := hp.1
    have sup := ih (List.nodup_cons.mp hn).2 (fun s' hs' => hw s' (List.mem_cons_of_mem _ hs')) hp.2
    have h1 := cf_sup_s s L hn hw hD sup h hh
    have h2 := cf_bar_of s L hn sup h x
    have h3 : 0 ≤ cf_E b t w L (fun ρ => if ρ x = s then 1 else 0) := cf_E_nn L (fun s' hs' => hw s' (List.mem_cons_of_mem _ hs')) (fun ρ _ => by
      by_cases e : ρ x = s
      · rw [if_pos e]; decide
      · rw [if_neg e]; decide)
    have h4 := Int.mul_le_mul_of_nonneg_left h1 h3
    have h5 := cf_split (b := b) (t := t) (w := w) L h s x
    have h6 := sup h (fun i hi => hh i (List.mem_cons_of_mem _ hi)) x
    have h7 := Int.mul_le_mul_of_nonneg_left h6 (Int.le_of_lt hD')
    rw [h5, Int.mul_add] at h7
    rw [Int.mul_left_comm] at h4
    rw [Int.mul_left_comm (cf_D b t w (s :: L)) (cf_D b t w L)] at h7
    exact Int.le_of_mul_le_mul_left (by omega) hD
theorem cf_bar (s : Nat) (L : List Nat) (hn : (s :: L).Nodup) (hw : ∀ s', s' ∈ L → ∀ k, k < b s' → 0 ≤ w s' k) (hp : cf_Pos b t w L) (h : Nat → Int) (x : Nat) :
    cf_D b t w L * cf_E b t w (s :: L) (fun ρ => h (ρ x)) = cf_E b t w L (fun ρ => if ρ x = s then 1 else 0) * cf_E b t w (s :: L) (fun ρ => h (ρ s)) + cf_D b t w (s :: L) * cf_E b t w L (fun ρ => if ρ x = s then 0 else h (ρ x)) :=
  cf_bar_of s L hn (cf_super L (List.nodup_cons.mp hn).2 hw hp) h x
theorem cf_D_cons (s : Nat) (L : List Nat) : cf_D b t w (s :: L) = cf_S (b s) (fun k => w s k * cf_E b t w L (fun ρ => if ρ (t s k) = s then 0 else 1)) := rfl
theorem cf_pos : ∀ (L : List Nat), L.Nodup → (∀ s, s ∈ L → ∀ k, k < b s → 0 < w s k) →
    (∀ T : Nat → Prop, (∀ x, T x → x ∈ L ∧ ∀ k, k < b x → T (t x k)) → ∀ x, ¬ T x) → cf_Pos b t w L := by
  intro L
  induction L with
  | nil => intro _ _ _; trivial
  | cons s L ih =>
    intro hn hw esc
    have hs : s ∉ L := (List.nodup_cons.mp hn).1
    have hp := ih (List.nodup_cons.mp hn).2 (fun s' hs' => hw s' (List.mem_cons_of_mem _ hs')) (fun T hT => esc T (fun x hx => ⟨List.mem_cons_of_mem _ (hT x hx).1, (hT x hx).2⟩))
    have hD := cf_Pos_D hp
    have nn : ∀ x, 0 ≤ cf_E b t w L (fun ρ => if ρ x = s then 0 else 1) := fun x => cf_E_nn L (fun s' hs' k hk => Int.le_of_lt (hw s' (List.mem_cons_of_mem _ hs') k hk)) (fun ρ _ => by
      by_cases e : ρ x = s
      · rw [if_pos e]; decide
      · rw [if_neg e]; decide)
    refine ⟨?_, hp⟩
    rw [cf_D_cons]
    have h1 : ∀ k, k < b s → 0 ≤ w s k * cf_E b t w L (fun ρ => if ρ (t s k) = s then 0 else 1) := fun k hk => Int.mul_nonneg (Int.le_of_lt (hw s List.mem_cons_self k hk)) (nn _)
    have h2 := cf_S_nn h1
    refine Classical.byContradiction (fun h3 => ?_)
    have h4 := cf_S_all0 h1 (by omega)
    refine esc (fun x => cf_E b t w L (fun ρ => if ρ x = s then 0 else 1) = 0) (fun x hx => ?_) s ?_
    · have hm : x ∈ s :: L := by
        refine Classical.byContradiction (fun hm => ?_)
        have e1 : x ≠ s := fun e => hm (e ▸ List.mem_cons_self)
        have e2 : x ∉ L := fun e => hm (List.mem_cons_of_mem _ e)
        have e3 := cf_E_root (b := b) (t := t) (w := w) L (fun y => if y = s then 0 else 1) e2
        have e4 : cf_E b t w L (fun ρ => if ρ x = s then 0 else 1) = cf_D b t w L * (if x = s then 0 else 1) := e3
        rw [if_neg e1] at e4
        omega
      refine ⟨hm, fun k hk => ?_⟩
      have hk' : ∀ k, k < b x → w x k * cf_E b t w L (fun ρ => if ρ (t x k) = s then 0 else 1) = 0 := by
        rcases List.mem_cons.mp hm with e | e
        · subst e; exact h4
        · have e1 := cf_harm (b := b) (t := t) (w := w) L (List.nodup_cons.mp hn).2 x e (fun y => if y = s then 0 else 1)
          have e2 : cf_S (b x) (w x) * cf_E b t w L (fun ρ => if ρ x = s then 0 else 1) = cf_S (b x) (fun a => w x a * cf_E b t w L (fun ρ => if ρ (t x a) = s then 0 else 1)) := e1
          rw [hx, Int.mul_zero] at e2
          exact cf_S_all0 (fun k hk => Int.mul_nonneg (Int.le_of_lt (hw x hm k hk)) (nn _)) e2.symm
      have e3 := hw x hm k hk
      rcases Int.mul_eq_zero.mp (hk' k hk) with e4 | e4
      · omega
      · exact e4
    · exact cf_E_z L (fun ρ hρ => by
        have e := hρ.1 s hs
        rw [if_pos e])
theorem cf_bound : ∀ (L : List Nat), (∀ s, s ∈ L → ∀ k, k < b s → 0 ≤ w s k) → (∀ s, s ∈ L → cf_S (b s) (w s) ≤ 27) → ∀ ψ : (Nat → Nat) → Int, (∀ ρ, 0 ≤ ψ ρ ∧ ψ ρ ≤ 1) → cf_E b t w L ψ ≤ 27 ^ L.length := by
  intro L
  induction L with
  | nil => intro _ _ ψ h; exact (h _).2
  | cons s L ih =>
    intro hw hW ψ h
    have h1 : cf_E b t w (s :: L) ψ ≤ cf_S (b s) (fun k => w s k * 27 ^ L.length) := by
      rw [cf_E_cons]
      refine cf_S_le (fun k hk => Int.mul_le_mul_of_nonneg_left (ih (fun s' hs' => hw s' (List.mem_cons_of_mem _ hs')) (fun s' hs' => hW s' (List.mem_cons_of_mem _ hs')) _ (fun ρ => ?_)) (hw s List.mem_cons_self k hk))
      by_cases e : ρ (t s k) = s
      · rw [if_pos e]; decide
      · rw [if_neg e]; exact h _
    rw [cf_S_mulr] at h1
    have h2 : cf_S (b s) (w s) * 27 ^ L.length ≤ 27 * 27 ^ L.length := Int.mul_le_mul_of_nonneg_right (hW s List.mem_cons_self) (Int.le_of_lt (Int.pow_pos (by decide)))
    rw [List.length_cons, Int.pow_succ, Int.mul_comm (27 ^ L.length)]
    omega
end
end
section
/-! the list of moving states, ranks, and the table of the elimination -/
def cf_LM (M : Nat → Bool) : Nat → List Nat
  | 0 => []
  | n + 1 => if M n = true then n :: cf_LM M n else cf_LM M n
def cf_rk (M : Nat → Bool) : Nat → Nat
  | 0 => 0
  | n + 1 => if M n = true then cf_rk M n + 1 else cf_rk M n
section
variable {M : Nat → Bool}
theorem cf_LM_t {n : Nat} (h : M n = true) : cf_LM M (n + 1) = n :: cf_LM M n := if_pos h
theorem cf_LM_f {n : Nat} (h : ¬ M n = true) : cf_LM M (n + 1) = cf_LM M n := if_neg h
theorem cf_rk_t {n : Nat} (h : M n = true) : cf_rk M (n + 1) = cf_rk M n + 1 := if_pos h
theorem cf_rk_f {n : Nat} (h : ¬ M n = true) : cf_rk M (n + 1) = cf_rk M n := if_neg h
theorem cf_LM_mem (n x : Nat) : x ∈ cf_LM M n ↔ x < n ∧ M x = true := by
  induction n with
  | zero => exact ⟨fun h => (nomatch h), fun h => absurd h.1 (by omega)⟩
  | succ n ih =>
    by_cases h : M n = true
    · rw [cf_LM_t h, List.mem_cons, ih]
      constructor
      · rintro (e | e)
        · subst e; exact ⟨by omega, h⟩
        · exact ⟨by omega, e.2⟩
      · intro e
        by_cases e1 : x = n
        · exact Or.inl e1
        · exact Or.inr ⟨by omega, e.2⟩
    · rw [cf_LM_f h, ih]
      constructor
      · intro e; exact ⟨by omega, e.2⟩
      · intro e
        by_cases e1 : x = n
        · subst e1; exact absurd e.2 h
        · exact ⟨by omega, e.2⟩
theorem cf_LM_nd (n : Nat) : (cf_LM M n).Nodup := by
  induction n with
  | zero => exact List.nodup_nil
  | succ n ih =>
    by_cases h : M n = true
    · rw [cf_LM_t h]
      exact List.nodup_cons.mpr ⟨fun e => absurd ((cf_LM_mem n n).mp e).1 (by omega), ih⟩
    · rw [cf_LM_f h]; exact ih
theorem cf_LM_len (n : Nat) : (cf_LM M n).length = cf_rk M n := by
  induction n with
  | zero => rfl
  | succ n ih =>
    by_cases h : M n = true
    · rw [cf_LM_t h, cf_rk_t h, List.length_cons, ih]
    · rw [cf_LM_f h, cf_rk_f h, ih]
theorem cf_rk_le (n : Nat) : cf_rk M n ≤ n := by
  induction n with
  | zero => exact Nat.le_refl _
  | succ n ih =>
    by_cases h : M n = true
    · rw [cf_rk_t h]; omega
    · rw [cf_rk_f h]; omega
theorem cf_rk_mono {m : Nat} : ∀ {n : Nat}, m ≤ n → cf_rk M m ≤ cf_rk M n := by
  intro n
  induction n with
  | zero => intro h; have e : m = 0 := by omega
            subst e; exact Nat.le_refl _
  | succ n ih =>
    intro h
    by_cases e : m = n + 1
    · subst e; exact Nat.le_refl _
    · have h1 := ih (by omega)
      by_cases h : M n = true
      · rw [cf_rk_t h]; omega
      · rw [cf_rk_f h]; omega
theorem cf_rk_lt {x y : Nat} (hx : M x = true) (h : x < y) : cf_rk M x < cf_rk M y := by
  have h1 : cf_rk M (x + 1) ≤ cf_rk M y := cf_rk_mono (by omega)
  rw [cf_rk_t hx] at h1; omega
theorem cf_rk_inj {x y : Nat} (hx : M x = true) (hy : M y = true) (h : cf_rk M x = cf_rk M y) : x = y := by
  by_cases h1 : x < y
  · have := cf_rk_lt hx h1; omega
  · by_cases h2 : y < x
    · have := cf_rk_lt hy h2; omega
    · omega
theorem cf_rk_ex {k : Nat} : ∀ {n : Nat}, k < cf_rk M n → ∃ s, s < n ∧ M s = true ∧ cf_rk M s = k := by
  intro n
  induction n with
  | zero => intro h; exact absurd h (by show ¬ k < 0; omega)
  | succ n ih =>
    intro h
    by_cases hm : M n = true
    · rw [cf_rk_t hm] at h
      by_cases e : k = cf_rk M n
      · exact ⟨n, by omega, hm, e.symm⟩
      · obtain ⟨s, h1, h2⟩ := ih (by omega)
        exact ⟨s, by omega, h2⟩
    · rw [cf_rk_f hm] at h
      obtain ⟨s, h1, h2⟩ := ih h
      exact ⟨s, by omega, h2⟩
end
/-- the column c as a function of the root: the goal column z, else the state of rank c -/
def cf_hc (M G : Nat → Bool) (z c y : Nat) : Int := if c = z then (if G y = true then 1 else 0) else (if M y = true ∧ cf_rk M y = c then -1 else 0)
def cf_T (b : Nat → Nat) (t : Nat → Nat → Nat) (w : Nat → Nat → Int) (M G : Nat → Bool) (z n x c : Nat) : Int :=
  (if cf_rk M x = c then (if x < n then cf_D b t w (cf_LM M n) else cf_S (b x) (w x) * cf_D b t w (cf_LM M n)) else 0)
  + (if x < n then cf_E b t w (cf_LM M n) (fun ρ => cf_hc M G z c (ρ x)) else cf_S (b x) (fun a => w x a * cf_E b t w (cf_LM M n) (fun ρ => cf_hc M G z c (ρ (t x a)))))
section
variable {b : Nat → Nat} {t : Nat → Nat → Nat} {w : Nat → Nat → Int} {M G : Nat → Bool}
theorem cf_D_cons2 (s : Nat) (L : List Nat) : cf_D b t w (s :: L) = cf_S (b s) (w s) * cf_D b t w L - cf_S (b s) (fun k => w s k * cf_E b t w L (fun ρ => if ρ (t s k) = s then 1 else 0)) := by
  rw [← cf_S_mulr, ← cf_S_sub]
  refine cf_S_congr (fun k _ => ?_)
  rw [← Int.mul_sub]
  refine congrArg (w s k * ·) ?_
  unfold cf_D
  rw [← cf_E_sub]
  refine cf_E_ext L (fun ρ => ?_)
  by_cases e : ρ (t s k) = s
  · rw [if_pos e, if_pos e]; rfl
  · rw [if_neg e, if_neg e]; rfl
theorem cf_E_self (s : Nat) (L : List Nat) (hs : s ∉ L) (h : Nat → Int) : cf_E b t w (s :: L) (fun ρ => h (ρ s)) = cf_S (b s) (fun k => w s k * cf_E b t w L (fun ρ => if ρ (t s k) = s then 0 else h (ρ (t s k)))) := by
  rw [cf_E_cons]
  refine cf_S_congr (fun k _ => congrArg (w s k * ·) (cf_E_congr L (fun ρ hρ => ?_)))
  have e := hρ.1 s hs
  dsimp only
  rw [e, if_pos rfl]
theorem cf_hc_rk {z s : Nat} (hs : M s = true) (hz : cf_rk M s < z) (y : Nat) : cf_hc M G z (cf_rk M s) y = - (if y = s then 1 else 0) := by
  unfold cf_hc
  rw [if_neg (by omega)]
  by_cases e : y = s
  · subst e; rw [if_pos rfl, if_pos ⟨hs, rfl⟩]
  · rw [if_neg e, if_neg (fun h => e (cf_rk_inj h.1 hs h.2))]; rfl
theorem cf_hc_0 {z s c : Nat} (hs : M s = true) (hG : G s = false) (hc : c ≠ cf_rk M s) : cf_hc M G z c s = 0 := by
  unfold cf_hc
  by_cases e : c = z
  · rw [if_pos e, hG]; rfl
  · rw [if_neg e, if_neg (fun h => hc h.2.symm)]
theorem cf_hc_b (z c y : Nat) : -1 ≤ cf_hc M G z c y ∧ cf_hc M G z c y ≤ 1 := by
  unfold cf_hc
  by_cases e : c = z
  · rw [if_pos e]
    by_cases e1 : G y = true
    · rw [if_pos e1]; decide
    · rw [if_neg e1]; decide
  · rw [if_neg e]
    by_cases e1 : M y = true ∧ cf_rk M y = c
    · rw [if_pos e1]; decide
    · rw [if_neg e1]; decide
theorem cf_notin (s : Nat) : s ∉ cf_LM M s := fun e => absurd ((cf_LM_mem s s).mp e).1 (by omega)
theorem cf_T_ge {z n x c : Nat} (h : ¬ x < n) : cf_T b t w M G z n x c = (if cf_rk M x = c then cf_S (b x) (w x) * cf_D b t w (cf_LM M n) else 0) + cf_S (b x) (fun a => w x a * cf_E b t w (cf_LM M n) (fun ρ => cf_hc M G z c (ρ (t x a)))) := by
  unfold cf_T; rw [if_neg h, if_neg h]
theorem cf_T_lt {z n x c : Nat} (h : x < n) : cf_T b t w M G z n x c = (if cf_rk M x = c then cf_D b t w (cf_LM M n) else 0) + cf_E b t w (cf_LM M n) (fun ρ => cf_hc M G z c (ρ x)) := by
  unfold cf_T; rw [if_pos h, if_pos h]
theorem cf_T_piv {z s : Nat} (hs : M s = true) (hz : cf_rk M s < z) : cf_T b t w M G z s s (cf_rk M s) = cf_D b t w (cf_LM M (s + 1)) := by
  rw [cf_T_ge (by omega), if_pos rfl, cf_LM_t hs, cf_D_cons2]
  have h1 : cf_S (b s) (fun a => w s a * cf_E b t w (cf_LM M s) (fun ρ => cf_hc M G z (cf_rk M s) (ρ (t s a)))) = (-1) * cf_S (b s) (fun k => w s k * cf_E b t w (cf_LM M s) (fun ρ => if ρ (t s k) = s then 1 else 0)) := by
    rw [← cf_S_mul]
    refine cf_S_congr (fun k _ => ?_)
    rw [Int.mul_left_comm, Int.neg_mul, Int.one_mul, ← cf_E_neg]
    exact congrArg (w s k * ·) (cf_E_ext _ (fun ρ => cf_hc_rk hs hz _))
  rw [h1]; omega
theorem cf_T_row {z s c : Nat} (hs : M s = true) (hG : G s = false) (hz : cf_rk M s < z) : cf_T b t w M G z (s + 1) s c = cf_T b t w M G z s s c := by
  by_cases e : c = cf_rk M s
  · subst e
    rw [cf_T_piv hs hz, cf_T_lt (by omega), if_pos rfl]
    have h1 : cf_E b t w (cf_LM M (s + 1)) (fun ρ => cf_hc M G z (cf_rk M s) (ρ s)) = 0 := cf_E_z _ (fun ρ hρ => by
      rw [cf_hc_rk hs hz, if_neg]; · rfl
      · intro h2
        exact hρ.2 s (h2.symm ▸ (cf_LM_mem (s + 1) s).mpr ⟨by omega, hs⟩))
    rw [h1]; omega
  · rw [cf_T_ge (n := s) (by omega), cf_T_lt (n := s + 1) (by omega), if_neg (fun h => e h.symm), if_neg (fun h => e h.symm), cf_LM_t hs, cf_E_self s _ (cf_notin s)]
    refine congrArg (0 + ·) (cf_S_congr (fun k _ => congrArg (w s k * ·) (cf_E_ext _ (fun ρ => ?_))))
    by_cases e1 : ρ (t s k) = s
    · rw [if_pos e1, e1, cf_hc_0 hs hG e]
    · rw [if_neg e1]
theorem cf_T_bar {z s c : Nat} (hs : M s = true) (hG : G s = false) (hw : ∀ s', s' < s → M s' = true → ∀ k, k < b s' → 0 ≤ w s' k) (hp : cf_Pos b t w (cf_LM M s)) (hc : c ≠ cf_rk M s) (y : Nat) :
    cf_D b t w (cf_LM M s) * cf_E b t w (cf_LM M (s + 1)) (fun ρ => cf_hc M G z c (ρ y)) = cf_E b t w (cf_LM M s) (fun ρ => if ρ y = s then 1 else 0) * cf_T b t w M G z s s c + cf_D b t w (cf_LM M (s + 1)) * cf_E b t w (cf_LM M s) (fun ρ => cf_hc M G z c (ρ y)) := by
  have h1 := cf_bar s (cf_LM M s) (List.nodup_cons.mpr ⟨cf_notin s, cf_LM_nd s⟩) (fun s' hs' => hw s' ((cf_LM_mem s s').mp hs').1 ((cf_LM_mem s s').mp hs').2) hp (cf_hc M G z c) y
  rw [cf_LM_t hs, h1]
  have h2 : cf_T b t w M G z s s c = cf_E b t w (s :: cf_LM M s) (fun ρ => cf_hc M G z c (ρ s)) := by
    rw [cf_T_ge (by omega), if_neg (fun h => hc h.symm), cf_E_self s _ (cf_notin s), Int.zero_add]
    refine cf_S_congr (fun k _ => congrArg (w s k * ·) (cf_E_ext _ (fun ρ => ?_)))
    by_cases e1 : ρ (t s k) = s
    · rw [if_pos e1, e1, cf_hc_0 hs hG hc]
    · rw [if_neg e1]
  rw [h2]
  refine congrArg (_ + ·) (congrArg (cf_D b t w (s :: cf_LM M s) * ·) (cf_E_ext _ (fun ρ => ?_)))
  by_cases e1 : ρ y = s
  · rw [if_pos e1, e1, cf_hc_0 hs hG hc]
  · rw [if_neg e1]
theorem cf_T_step {z s x c : Nat} (hs : M s = true) (hG : G s = false) (hz : cf_rk M s < z) (hw : ∀ s', s' < s → M s' = true → ∀ k, k < b s' → 0 ≤ w s' k) (hp : cf_Pos b t w (cf_LM M s))
    (hx : M x = true) (hxs : x ≠ s) :
    cf_T b t w M G z s s (cf_rk M s) * cf_T b t w M G z s x c - cf_T b t w M G z s x (cf_rk M s) * cf_T b t w M G z s s c = cf_D b t w (cf_LM M s) * cf_T b t w M G z (s + 1) x c := by
  have hr : cf_rk M x ≠ cf_rk M s := fun h => hxs (cf_rk_inj hx hs h)
  by_cases e : c = cf_rk M s
  · subst e
    have h0 : ∀ y, cf_E b t w (cf_LM M (s + 1)) (fun ρ => cf_hc M G z (cf_rk M s) (ρ y)) = 0 := fun y => cf_E_z _ (fun ρ hρ => by
      rw [cf_hc_rk hs hz, if_neg]; · rfl
      · intro h2
        exact hρ.2 y (h2.symm ▸ (cf_LM_mem (s + 1) s).mpr ⟨by omega, hs⟩))
    have h1 : cf_T b t w M G z (s + 1) x (cf_rk M s) = 0 := by
      by_cases h2 : x < s + 1
      · rw [cf_T_lt h2, if_neg hr, h0]; rfl
      · rw [cf_T_ge h2, if_neg hr, cf_S_z (fun k _ => by rw [h0, Int.mul_zero])]; rfl
    rw [h1, Int.mul_zero, Int.mul_comm]; omega
  · rw [cf_T_piv hs hz]
    have hb := cf_T_bar (b := b) (t := t) (w := w) (G := G) (z := z) hs hG hw hp e
    by_cases h2 : x < s
    · have h3 : cf_T b t w M G z s x (cf_rk M s) = - cf_E b t w (cf_LM M s) (fun ρ => if ρ x = s then 1 else 0) := by
        rw [cf_T_lt h2, if_neg hr, Int.zero_add, ← cf_E_neg]
        exact cf_E_ext _ (fun ρ => cf_hc_rk hs hz _)
      have h4 := hb x
      rw [h3, cf_T_lt h2, cf_T_lt (n := s + 1) (by omega), Int.mul_add, Int.mul_add, h4, Int.neg_mul]
      by_cases e1 : cf_rk M x = c
      · rw [if_pos e1, if_pos e1, Int.mul_comm (cf_D b t w (cf_LM M s))]; omega
      · rw [if_neg e1, if_neg e1, Int.mul_zero, Int.mul_zero]; omega
    · have h3 : cf_T b t w M G z s x (cf_rk M s) = - cf_S (b x) (fun a => w x a * cf_E b t w (cf_LM M s) (fun ρ => if ρ (t x a) = s then 1 else 0)) := by
        rw [cf_T_ge h2, if_neg hr, Int.zero_add]
        have h5 : cf_S (b x) (fun a => w x a * cf_E b t w (cf_LM M s) (fun ρ => cf_hc M G z (cf_rk M s) (ρ (t x a)))) = (-1) * cf_S (b x) (fun k => w x k * cf_E b t w (cf_LM M s) (fun ρ => if ρ (t x k) = s then 1 else 0)) := by
          rw [← cf_S_mul]
          refine cf_S_congr (fun k _ => ?_)
          rw [Int.mul_left_comm, Int.neg_mul, Int.one_mul, ← cf_E_neg]
          exact congrArg (w x k * ·) (cf_E_ext _ (fun ρ => cf_hc_rk hs hz _))
        rw [h5]; omega
      have h4 : cf_D b t w (cf_LM M s) * cf_S (b x) (fun a => w x a * cf_E b t w (cf_LM M (s + 1)) (fun ρ => cf_hc M G z c (ρ (t x a)))) = cf_S (b x) (fun a => w x a * cf_E b t w (cf_LM M s) (fun ρ => if ρ (t x a) = s then 1 else 0)) * cf_T b t w M G z s s c + cf_D b t w (cf_LM M (s + 1)) * cf_S (b x) (fun a => w x a * cf_E b t w (cf_LM M s) (fun ρ => cf_hc M G z c (ρ (t x a)))) := by
        rw [← cf_S_mul, ← cf_S_mul, ← cf_S_mulr, ← cf_S_add]
        refine cf_S_congr (fun a _ => ?_)
        rw [Int.mul_left_comm, hb (t x a), Int.mul_add, Int.mul_assoc, Int.mul_left_comm (w x a) (cf_D b t w (cf_LM M (s + 1)))]
      rw [h3, cf_T_ge h2, cf_T_ge (n := s + 1) (by omega), Int.mul_add, Int.mul_add, h4, Int.neg_mul]
      by_cases e1 : cf_rk M x = c
      · rw [if_pos e1, if_pos e1, Int.mul_left_comm (cf_D b t w (cf_LM M s)), Int.mul_comm (cf_D b t w (cf_LM M s)), Int.mul_left_comm (cf_D b t w (cf_LM M (s + 1)))]; omega
      · rw [if_neg e1, if_neg e1, Int.mul_zero, Int.mul_zero]; omega
theorem cf_T_skip {z n x c : Nat} (hn : ¬ M n = true) (hx : M x = true) : cf_T b t w M G z (n + 1) x c = cf_T b t w M G z n x c := by
  have e : x ≠ n := fun e => hn (e ▸ hx)
  by_cases h : x < n
  · rw [cf_T_lt h, cf_T_lt (n := n + 1) (by omega), cf_LM_f hn]
  · rw [cf_T_ge h, cf_T_ge (n := n + 1) (by omega), cf_LM_f hn]
theorem cf_T_0 (z x c : Nat) : cf_T b t w M G z 0 x c = (if cf_rk M x = c then cf_S (b x) (w x) else 0) + cf_S (b x) (fun a => w x a * cf_hc M G z c (t x a)) := by
  rw [cf_T_ge (by omega)]
  have e : cf_S (b x) (w x) * cf_D b t w (cf_LM M 0) = cf_S (b x) (w x) := Int.mul_one _
  rw [e]; rfl
theorem cf_T_fin {N x : Nat} (hx : M x = true) (h : x < N) : cf_T b t w M G (cf_rk M N) N x (cf_rk M N) = cf_E b t w (cf_LM M N) (fun ρ => if G (ρ x) = true then 1 else 0) := by
  have h1 := cf_rk_lt hx h
  rw [cf_T_lt h, if_neg (by omega), Int.zero_add]
  exact cf_E_ext _ (fun ρ => if_pos rfl)
theorem cf_p27 {k : Nat} (h : k ≤ 6) : (27 : Int) ^ k ≤ 387420489 := by
  have h1 : k = 0 ∨ k = 1 ∨ k = 2 ∨ k = 3 ∨ k = 4 ∨ k = 5 ∨ k = 6 := by omega
  rcases h1 with e | e | e | e | e | e | e <;> subst e <;> decide
theorem cf_E_abs (L : List Nat) (hw : ∀ s, s ∈ L → ∀ k, k < b s → 0 ≤ w s k) (h : Nat → Int) (hh : ∀ y, -1 ≤ h y ∧ h y ≤ 1) (y : Nat) : - cf_D b t w L ≤ cf_E b t w L (fun ρ => h (ρ y)) ∧ cf_E b t w L (fun ρ => h (ρ y)) ≤ cf_D b t w L := by
  refine ⟨?_, ?_⟩
  · unfold cf_D
    rw [← cf_E_neg]
    exact cf_E_le L hw (fun ρ _ => (hh _).1)
  · exact cf_E_le L hw (fun ρ _ => (hh _).2)
theorem cf_T_bd {N z n x c : Nat} (hN : N ≤ 6) (hn : n ≤ N) (hxN : x < N) (hx : M x = true) (hw : ∀ s, M s = true → ∀ k, k < b s → 0 ≤ w s k) (hW : ∀ s, M s = true → cf_S (b s) (w s) ≤ 27) :
    -774840978 ≤ cf_T b t w M G z n x c ∧ cf_T b t w M G z n x c ≤ 774840978 := by
  have hw' : ∀ s, s ∈ cf_LM M n → ∀ k, k < b s → 0 ≤ w s k := fun s hs => hw s ((cf_LM_mem n s).mp hs).2
  have hD0 : 0 ≤ cf_D b t w (cf_LM M n) := cf_E_nn _ hw' (fun _ _ => by decide)
  have hD : cf_D b t w (cf_LM M n) ≤ 27 ^ (cf_LM M n).length := cf_bound _ hw' (fun s hs => hW s ((cf_LM_mem n s).mp hs).2) _ (fun _ => by decide)
  rw [cf_LM_len] at hD
  by_cases h : x < n
  · have h1 := cf_E_abs (t := t) (cf_LM M n) hw' (cf_hc M G z c) (cf_hc_b z c) x
    have h2 : cf_rk M n ≤ n := cf_rk_le n
    have h3 := cf_p27 (k := cf_rk M n) (by omega)
    rw [cf_T_lt h]
    by_cases e : cf_rk M x = c
    · rw [if_pos e]; omega
    · rw [if_neg e]; omega
  · have h1 : cf_rk M n ≤ cf_rk M x := cf_rk_mono (by omega)
    have h2 := cf_rk_lt hx hxN
    have h3 : cf_rk M N ≤ N := cf_rk_le N
    have h4 := cf_p27 (k := cf_rk M n + 1) (by omega)
    rw [Int.pow_succ, Int.mul_comm] at h4
    have hW0 : 0 ≤ cf_S (b x) (w x) := cf_S_nn (hw x hx)
    have h5 : cf_S (b x) (w x) * cf_D b t w (cf_LM M n) ≤ 27 * 27 ^ cf_rk M n := Int.le_trans (Int.mul_le_mul_of_nonneg_left hD hW0) (Int.mul_le_mul_of_nonneg_right (hW x hx) (Int.le_of_lt (Int.pow_pos (by decide))))
    have h6 : 0 ≤ cf_S (b x) (w x) * cf_D b t w (cf_LM M n) := Int.mul_nonneg hW0 hD0
    have h7 : cf_S (b x) (fun a => w x a * cf_E b t w (cf_LM M n) (fun ρ => cf_hc M G z c (ρ (t x a)))) ≤ cf_S (b x) (w x) * cf_D b t w (cf_LM M n) := by
      rw [← cf_S_mulr]
      exact cf_S_le (fun k hk => Int.mul_le_mul_of_nonneg_left (cf_E_abs _ hw' (cf_hc M G z c) (cf_hc_b z c) _).2 (hw x hx k hk))
    have h8 : cf_S (b x) (w x) * (- cf_D b t w (cf_LM M n)) ≤ cf_S (b x) (fun a => w x a * cf_E b t w (cf_LM M n) (fun ρ => cf_hc M G z c (ρ (t x a)))) := by
      rw [← cf_S_mulr]
      exact cf_S_le (fun k hk => Int.mul_le_mul_of_nonneg_left (cf_E_abs _ hw' (cf_hc M G z c) (cf_hc_b z c) _).1 (hw x hx k hk))
    rw [Int.mul_neg] at h8
    rw [cf_T_ge h]
    by_cases e : cf_rk M x = c
    · rw [if_pos e]; omega
    · rw [if_neg e]; omega
end
end
section
/-! the reference's codes: a choice of ways by digits; the sum over the codes is the forest sum -/
def cf_B (M : Nat → Bool) (b : Nat → Nat) : Nat → Nat
  | 0 => 1
  | n + 1 => if M n = true then cf_B M b n * b n else cf_B M b n
def cf_dg (M : Nat → Bool) (b : Nat → Nat) (c x : Nat) : Nat := c / cf_B M b x % b x
def cf_P (M : Nat → Bool) (b : Nat → Nat) (w : Nat → Nat → Int) (c : Nat) : Nat → Int
  | 0 => 1
  | n + 1 => if M n = true then cf_P M b w c n * w n (cf_dg M b c n) else cf_P M b w c n
/-- the root of x by the moves τ of the moving states below n -/
def cf_rt (M : Nat → Bool) (τ : Nat → Nat) : Nat → Nat → Nat
  | 0, x => x
  | n + 1, x => if M n = true then (if cf_rt M τ n x = n then cf_rt M τ n (τ n) else cf_rt M τ n x) else cf_rt M τ n x
def cf_ac (M : Nat → Bool) (τ : Nat → Nat) : Nat → Bool
  | 0 => true
  | n + 1 => if M n = true then (if cf_rt M τ n (τ n) = n then false else cf_ac M τ n) else cf_ac M τ n
theorem cf_S_app (n m : Nat) (f : Nat → Int) : cf_S (n + m) f = cf_S n f + cf_S m (fun c => f (n + c)) := by
  induction m with
  | zero => show cf_S n f = cf_S n f + 0; omega
  | succ m ih =>
    show cf_S (n + m) f + f (n + m) = cf_S n f + (cf_S m (fun c => f (n + c)) + f (n + m))
    rw [ih]; omega
theorem cf_S_prod (n m : Nat) (f : Nat → Int) : cf_S (n * m) f = cf_S m (fun d => cf_S n (fun c => f (c + n * d))) := by
  induction m with
  | zero => rfl
  | succ m ih =>
    rw [Nat.mul_succ, cf_S_app, ih]
    show _ = cf_S m (fun d => cf_S n (fun c => f (c + n * d))) + cf_S n (fun c => f (c + n * m))
    refine congrArg (_ + ·) (cf_S_congr (fun c _ => ?_))
    rw [Nat.add_comm]
section
variable {M : Nat → Bool} {b : Nat → Nat} {t : Nat → Nat → Nat} {w : Nat → Nat → Int}
theorem cf_B_t {n : Nat} (h : M n = true) : cf_B M b (n + 1) = cf_B M b n * b n := if_pos h
theorem cf_B_f {n : Nat} (h : ¬ M n = true) : cf_B M b (n + 1) = cf_B M b n := if_neg h
theorem cf_P_t {c n : Nat} (h : M n = true) : cf_P M b w c (n + 1) = cf_P M b w c n * w n (cf_dg M b c n) := if_pos h
theorem cf_P_f {c n : Nat} (h : ¬ M n = true) : cf_P M b w c (n + 1) = cf_P M b w c n := if_neg h
theorem cf_B_pos (hb : ∀ x, M x = true → 0 < b x) (n : Nat) : 0 < cf_B M b n := by
  induction n with
  | zero => exact Nat.one_pos
  | succ n ih =>
    by_cases h : M n = true
    · rw [cf_B_t h]; exact Nat.mul_pos ih (hb n h)
    · rw [cf_B_f h]; exact ih
theorem cf_B_dvd {x : Nat} (hx : M x = true) : ∀ {n : Nat}, x < n → ∃ q, cf_B M b n = cf_B M b x * (b x * q) := by
  intro n
  induction n with
  | zero => intro h; omega
  | succ n ih =>
    intro h
    by_cases e : x = n
    · subst e; exact ⟨1, by rw [cf_B_t hx, Nat.mul_one]⟩
    · obtain ⟨q, hq⟩ := ih (by omega)
      by_cases hm : M n = true
      · exact ⟨q * b n, by rw [cf_B_t hm, hq, Nat.mul_assoc, Nat.mul_assoc]⟩
      · exact ⟨q, by rw [cf_B_f hm, hq]⟩
theorem cf_dg_lo (hb : ∀ x, M x = true → 0 < b x) {x n : Nat} (hx : M x = true) (h : x < n) (c d : Nat) : cf_dg M b (c + cf_B M b n * d) x = cf_dg M b c x := by
  obtain ⟨q, hq⟩ := cf_B_dvd (b := b) hx h
  unfold cf_dg
  rw [hq, Nat.mul_assoc, Nat.add_mul_div_left _ _ (cf_B_pos hb x), Nat.mul_assoc, Nat.add_mul_mod_self_left]
theorem cf_dg_hi (hb : ∀ x, M x = true → 0 < b x) {n c d : Nat} (hc : c < cf_B M b n) (hd : d < b n) : cf_dg M b (c + cf_B M b n * d) n = d := by
  unfold cf_dg
  rw [Nat.add_mul_div_left _ _ (cf_B_pos hb n), Nat.div_eq_of_lt hc, Nat.zero_add, Nat.mod_eq_of_lt hd]
theorem cf_P_congr {c d : Nat} : ∀ {n : Nat}, (∀ x, x < n → M x = true → cf_dg M b c x = cf_dg M b d x) → cf_P M b w c n = cf_P M b w d n := by
  intro n
  induction n with
  | zero => intro _; rfl
  | succ n ih =>
    intro h
    have h1 := ih (fun x hx => h x (by omega))
    by_cases hm : M n = true
    · rw [cf_P_t hm, cf_P_t hm, h1, h n (by omega) hm]
    · rw [cf_P_f hm, cf_P_f hm, h1]
theorem cf_rt_congr {τ σ : Nat → Nat} : ∀ {n : Nat}, (∀ x, x < n → M x = true → τ x = σ x) → ∀ x, cf_rt M τ n x = cf_rt M σ n x := by
  intro n
  induction n with
  | zero => intro _ x; rfl
  | succ n ih =>
    intro h x
    have h1 := ih (fun x hx => h x (by omega))
    unfold cf_rt
    by_cases hm : M n = true
    · rw [if_pos hm, if_pos hm, h1, h1, h n (by omega) hm]
    · rw [if_neg hm, if_neg hm, h1]
theorem cf_ac_congr {τ σ : Nat → Nat} : ∀ {n : Nat}, (∀ x, x < n → M x = true → τ x = σ x) → cf_ac M τ n = cf_ac M σ n := by
  intro n
  induction n with
  | zero => intro _; rfl
  | succ n ih =>
    intro h
    have h1 := ih (fun x hx => h x (by omega))
    have h2 := cf_rt_congr (n := n) (fun x hx => h x (by omega))
    unfold cf_ac
    by_cases hm : M n = true
    · rw [if_pos hm, if_pos hm, h1, h2, h n (by omega) hm]
    · rw [if_neg hm, if_neg hm, h1]
theorem cf_code (hb : ∀ x, M x = true → 0 < b x) : ∀ (n : Nat) (ψ : (Nat → Nat) → Int),
    cf_S (cf_B M b n) (fun c => cf_P M b w c n * (if cf_ac M (fun x => t x (cf_dg M b c x)) n = true then ψ (cf_rt M (fun x => t x (cf_dg M b c x)) n) else 0)) = cf_E b t w (cf_LM M n) ψ := by
  intro n
  induction n with
  | zero => intro ψ; show 0 + 1 * (if true = true then ψ (fun x => x) else 0) = ψ (fun x => x); rw [if_pos rfl]; omega
  | succ n ih =>
    intro ψ
    by_cases hm : M n = true
    · rw [cf_B_t hm, cf_S_prod, cf_LM_t hm, cf_E_cons]
      refine cf_S_congr (fun d hd => ?_)
      rw [← ih, ← cf_S_mul]
      refine cf_S_congr (fun c hc => ?_)
      have h1 : cf_P M b w (c + cf_B M b n * d) n = cf_P M b w c n := cf_P_congr (fun x hx hx' => cf_dg_lo hb hx' hx c d)
      have h2 : ∀ x, cf_rt M (fun x => t x (cf_dg M b (c + cf_B M b n * d) x)) n x = cf_rt M (fun x => t x (cf_dg M b c x)) n x := cf_rt_congr (fun x hx hx' => congrArg (t x) (cf_dg_lo hb hx' hx c d))
      have h3 : cf_ac M (fun x => t x (cf_dg M b (c + cf_B M b n * d) x)) n = cf_ac M (fun x => t x (cf_dg M b c x)) n := cf_ac_congr (fun x hx hx' => congrArg (t x) (cf_dg_lo hb hx' hx c d))
      have h4 : cf_dg M b (c + cf_B M b n * d) n = d := cf_dg_hi hb hc hd
      have h5 : cf_ac M (fun x => t x (cf_dg M b (c + cf_B M b n * d) x)) (n + 1) = if cf_rt M (fun x => t x (cf_dg M b c x)) n (t n d) = n then false else cf_ac M (fun x => t x (cf_dg M b c x)) n := by
        conv => lhs; unfold cf_ac
        rw [if_pos hm, h2, h3, h4]
      have h6 : cf_rt M (fun x => t x (cf_dg M b (c + cf_B M b n * d) x)) (n + 1) = fun x => if cf_rt M (fun x => t x (cf_dg M b c x)) n x = n then cf_rt M (fun x => t x (cf_dg M b c x)) n (t n d) else cf_rt M (fun x => t x (cf_dg M b c x)) n x := by
        funext x
        conv => lhs; unfold cf_rt
        rw [if_pos hm, h2, h2, h4]
      rw [cf_P_t hm, h1, h4, h5, h6, Int.mul_comm (cf_P M b w c n) (w n d), Int.mul_assoc]
      refine congrArg (w n d * ·) (congrArg (cf_P M b w c n * ·) ?_)
      by_cases e1 : cf_rt M (fun x => t x (cf_dg M b c x)) n (t n d) = n
      · simp only [if_pos e1]
        by_cases e2 : cf_ac M (fun x => t x (cf_dg M b c x)) n = true
        · rw [if_pos e2]; rfl
        · rw [if_neg e2]; rfl
      · simp only [if_neg e1]
    · rw [cf_B_f hm, cf_LM_f hm, ← ih]
      refine cf_S_congr (fun c hc => ?_)
      have h5 : cf_ac M (fun x => t x (cf_dg M b c x)) (n + 1) = cf_ac M (fun x => t x (cf_dg M b c x)) n := if_neg hm
      have h6 : cf_rt M (fun x => t x (cf_dg M b c x)) (n + 1) = cf_rt M (fun x => t x (cf_dg M b c x)) n := by
        funext x
        exact if_neg hm
      rw [cf_P_f hm, h5, h6]
end
/-! where the moves lead -/
def cf_ld (M G : Nat → Bool) (τ : Nat → Nat) : Nat → Nat → Int32
  | 0, _ => -1
  | f + 1, x => if G x = true then 1 else if M x = true then cf_ld M G τ f (τ x) else 0
def cf_pa (M : Nat → Bool) (τ : Nat → Nat) (n : Nat) : Nat → Nat → Nat → Prop
  | 0, x, y => x = y
  | m + 1, x, y => (x < n ∧ M x = true) ∧ cf_pa M τ n m (τ x) y
def cf_it (τ : Nat → Nat) : Nat → Nat → Nat
  | 0, x => x
  | m + 1, x => cf_it τ m (τ x)
section
variable {M G : Nat → Bool} {τ : Nat → Nat}
theorem cf_pa_trans {n m l : Nat} {y z : Nat} : ∀ {x : Nat}, cf_pa M τ n m x y → cf_pa M τ n l y z → cf_pa M τ n (m + l) x z := by
  induction m with
  | zero => intro x h1 h2; rw [Nat.zero_add]; have e : x = y := h1
            rw [e]; exact h2
  | succ m ih =>
    intro x h1 h2
    rw [Nat.succ_add]
    exact ⟨h1.1, ih h1.2 h2⟩
theorem cf_pa_mono {n n' m y : Nat} (hn : n ≤ n') : ∀ {x : Nat}, cf_pa M τ n m x y → cf_pa M τ n' m x y := by
  induction m with
  | zero => intro x h; exact h
  | succ m ih => intro x h; exact ⟨⟨by have := h.1.1; omega, h.1.2⟩, ih h.2⟩
theorem cf_ac_pa : ∀ {n : Nat}, cf_ac M τ n = true → ∀ x, (∃ m, cf_pa M τ n m x (cf_rt M τ n x)) ∧ ¬ (cf_rt M τ n x < n ∧ M (cf_rt M τ n x) = true) := by
  intro n
  induction n with
  | zero => intro _ x; exact ⟨⟨0, rfl⟩, fun h => absurd h.1 (by omega)⟩
  | succ n ih =>
    intro h x
    by_cases hm : M n = true
    · have h1 : (if cf_rt M τ n (τ n) = n then false else cf_ac M τ n) = true := (if_pos hm).symm.trans h
      by_cases e : cf_rt M τ n (τ n) = n
      · rw [if_pos e] at h1; exact absurd h1 (by decide)
      · rw [if_neg e] at h1
        have h2 : cf_rt M τ (n + 1) x = if cf_rt M τ n x = n then cf_rt M τ n (τ n) else cf_rt M τ n x := if_pos hm
        rw [h2]
        obtain ⟨⟨m, h3⟩, h4⟩ := ih h1 x
        obtain ⟨⟨l, h5⟩, h6⟩ := ih h1 (τ n)
        by_cases e1 : cf_rt M τ n x = n
        · rw [if_pos e1]
          rw [e1] at h3
          refine ⟨⟨m + (l + 1), cf_pa_trans (cf_pa_mono (by omega) h3) ⟨⟨by omega, hm⟩, cf_pa_mono (by omega) h5⟩⟩, fun h7 => h6 ⟨by omega, h7.2⟩⟩
        · rw [if_neg e1]
          exact ⟨⟨m, cf_pa_mono (by omega) h3⟩, fun h7 => h4 ⟨by omega, h7.2⟩⟩
    · have h1 : cf_ac M τ n = true := (if_neg hm).symm.trans h
      have h2 : cf_rt M τ (n + 1) x = cf_rt M τ n x := if_neg hm
      rw [h2]
      obtain ⟨⟨m, h3⟩, h4⟩ := ih h1 x
      refine ⟨⟨m, cf_pa_mono (by omega) h3⟩, fun h7 => ?_⟩
      by_cases e : cf_rt M τ n x = n
      · rw [e] at h7; exact hm h7.2
      · exact h4 ⟨by omega, h7.2⟩
theorem cf_pa_it {n : Nat} : ∀ {m x y : Nat}, cf_pa M τ n m x y → cf_it τ m x = y ∧ ∀ i, i < m → cf_it τ i x < n ∧ M (cf_it τ i x) = true := by
  intro m
  induction m with
  | zero => intro x y h; exact ⟨h, fun i hi => by omega⟩
  | succ m ih =>
    intro x y h
    obtain ⟨h1, h2⟩ := ih h.2
    refine ⟨h1, fun i hi => ?_⟩
    cases i with
    | zero => exact h.1
    | succ i => exact h2 i (by omega)
theorem cf_it_add (i k x : Nat) : cf_it τ (i + k) x = cf_it τ k (cf_it τ i x) := by
  induction i generalizing x with
  | zero => rw [Nat.zero_add]; rfl
  | succ i ih => rw [Nat.succ_add]; exact ih (τ x)
theorem cf_pigeon : ∀ (n : Nat) (f : Nat → Nat), (∀ i, i ≤ n → f i < n) → ∃ i j, i < j ∧ j ≤ n ∧ f i = f j := by
  intro n
  induction n with
  | zero => intro f h; exact absurd (h 0 (by omega)) (by omega)
  | succ n ih =>
    intro f h
    by_cases hx : ∃ i, i < n + 1 ∧ f i = f (n + 1)
    · obtain ⟨i, h1, h2⟩ := hx
      exact ⟨i, n + 1, h1, by omega, h2⟩
    · obtain ⟨i, j, h1, h2, h3⟩ := ih (fun i => if f i = n then f (n + 1) else f i) (fun i hi => by
        have h4 := h i (by omega)
        have h5 := h (n + 1) (by omega)
        have h6 : ¬ f i = f (n + 1) := fun e => hx ⟨i, by omega, e⟩
        show (if f i = n then f (n + 1) else f i) < n
        by_cases e : f i = n
        · rw [if_pos e]; omega
        · rw [if_neg e]; omega)
      refine ⟨i, j, h1, by omega, ?_⟩
      have h7 : ¬ f i = f (n + 1) := fun e => hx ⟨i, by omega, e⟩
      have h8 : ¬ f j = f (n + 1) := fun e => hx ⟨j, by omega, e⟩
      have h9 : (if f i = n then f (n + 1) else f i) = (if f j = n then f (n + 1) else f j) := h3
      by_cases e : f i = n
      · rw [if_pos e] at h9
        by_cases e2 : f j = n
        · rw [e, e2]
        · rw [if_neg e2] at h9; exact absurd h9.symm h8
      · rw [if_neg e] at h9
        by_cases e2 : f j = n
        · rw [if_pos e2] at h9; exact absurd h9 h7
        · rw [if_neg e2] at h9; exact h9
theorem cf_pa_short {n m x y : Nat} (hn : n ≤ 6) (h : cf_pa M τ n m x y) (hy : ¬ (y < n ∧ M y = true)) : m ≤ 6 := by
  refine Classical.byContradiction (fun hm => ?_)
  obtain ⟨h1, h2⟩ := cf_pa_it h
  obtain ⟨i, j, h3, h4, h5⟩ := cf_pigeon 6 (fun i => cf_it τ i x) (fun i hi => by
    have := (h2 i (by omega)).1
    show cf_it τ i x < 6
    omega)
  have h6 : cf_it τ i x = cf_it τ j x := h5
  have h7 := cf_it_add (τ := τ) i (m - j) x
  have h8 := cf_it_add (τ := τ) j (m - j) x
  rw [h6, ← h8, show j + (m - j) = m by omega, h1] at h7
  exact hy (h7 ▸ h2 (i + (m - j)) (by omega))
theorem cf_ld_pa {n y : Nat} (hG : ∀ x, M x = true → G x = false) (hy : M y = false) : ∀ {m f x : Nat}, m < f → cf_pa M τ n m x y → cf_ld M G τ f x = if G y = true then 1 else 0 := by
  intro m
  induction m with
  | zero =>
    intro f x hf h
    have e : x = y := h
    subst e
    cases f with
    | zero => omega
    | succ f =>
      unfold cf_ld
      by_cases h1 : G x = true
      · rw [if_pos h1, if_pos h1]
      · rw [if_neg h1, if_neg h1, hy]; rfl
  | succ m ih =>
    intro f x hf h
    cases f with
    | zero => omega
    | succ f =>
      unfold cf_ld
      rw [hG x h.1.2, if_neg (by decide), if_pos h.1.2]
      exact ih (by omega) h.2
theorem cf_ld_ac {n : Nat} (hn : n ≤ 6) (hG : ∀ x, M x = true → G x = false) (hM : ∀ x, M x = true → x < n) (h : cf_ac M τ n = true) (x : Nat) : cf_ld M G τ 7 x = if G (cf_rt M τ n x) = true then 1 else 0 := by
  obtain ⟨⟨m, h1⟩, h2⟩ := cf_ac_pa h x
  have h3 := cf_pa_short hn h1 h2
  refine cf_ld_pa hG ?_ (by omega) h1
  cases e : M (cf_rt M τ n x) with
  | false => rfl
  | true => exact absurd ⟨hM _ e, e⟩ h2
theorem cf_ld_cyc (hG : ∀ x, M x = true → G x = false) (C : Nat → Prop) (hC : ∀ x, C x → M x = true ∧ C (τ x)) : ∀ (f : Nat) {x : Nat}, C x → cf_ld M G τ f x = -1 := by
  intro f
  induction f with
  | zero => intro x _; rfl
  | succ f ih =>
    intro x hx
    unfold cf_ld
    rw [hG x (hC x hx).1, if_neg (by decide), if_pos (hC x hx).1]
    exact ih (hC x hx).2
theorem cf_ld_not (hG : ∀ x, M x = true → G x = false) : ∀ {n : Nat}, ¬ cf_ac M τ n = true → ∃ s, s < n ∧ ∀ f, cf_ld M G τ f s = -1 := by
  intro n
  induction n with
  | zero => intro h; exact absurd rfl h
  | succ n ih =>
    intro h
    by_cases hm : M n = true
    · by_cases ha : cf_ac M τ n = true
      · have h1 : cf_ac M τ (n + 1) = if cf_rt M τ n (τ n) = n then false else cf_ac M τ n := if_pos hm
        by_cases e : cf_rt M τ n (τ n) = n
        · obtain ⟨⟨m, h2⟩, _⟩ := cf_ac_pa ha (τ n)
          rw [e] at h2
          refine ⟨n, by omega, fun f => cf_ld_cyc hG (fun y => ∃ m, cf_pa M τ n m y n) (fun y hy => ?_) f ⟨0, rfl⟩⟩
          obtain ⟨m', h3⟩ := hy
          cases m' with
          | zero => have e2 : y = n := h3
                    subst e2; exact ⟨hm, ⟨m, h2⟩⟩
          | succ m' => exact ⟨h3.1.2, ⟨m', h3.2⟩⟩
        · rw [h1, if_neg e] at h; exact absurd ha h
      · obtain ⟨s, h1, h2⟩ := ih ha
        exact ⟨s, by omega, h2⟩
    · have h1 : cf_ac M τ (n + 1) = cf_ac M τ n := if_neg hm
      rw [h1] at h
      obtain ⟨s, h1, h2⟩ := ih h
      exact ⟨s, by omega, h2⟩
end
end
section
/-! a plan's chances; a plan that no switch improves is the best at all states -/
/-- M: the moving states for the goals G and the ways b, t -/
def cf_OK (N : Nat) (G : Nat → Bool) (b : Nat → Nat) (t : Nat → Nat → Nat) (w : Nat → Nat → Int) (M : Nat → Bool) : Prop :=
  (∀ x, M x = true → x < N) ∧ (∀ x, M x = true → G x = false)
  ∧ (∀ x, x < N → ∀ k, k < b x → (G (t x k) = true ∨ M (t x k) = true) → (G x = true ∨ M x = true))
  ∧ (∀ T : Nat → Prop, (∀ x, T x → G x = false ∧ ∀ k, k < b x → T (t x k)) → ∀ x, T x → M x = false)
  ∧ (∀ x k, k < b x → 0 < w x k) ∧ (∀ x k, t x k < N) ∧ (∀ x, G x = true → x < N)
def cf_A (G : Nat → Bool) (b : Nat → Nat) (t : Nat → Nat → Nat) (w : Nat → Nat → Int) (L : List Nat) (x : Nat) : Int := cf_E b t w L (fun ρ => if G (ρ x) = true then 1 else 0)
section
variable {N : Nat} {G : Nat → Bool} {b : Nat → Nat} {t : Nat → Nat → Nat} {w : Nat → Nat → Int} {M : Nat → Bool}
theorem cf_OK_pos (h : cf_OK N G b t w M) : cf_Pos b t w (cf_LM M N) := by
  refine cf_pos _ (cf_LM_nd N) (fun s _ => h.2.2.2.2.1 s) (fun T hT x hx => ?_)
  have h1 := h.2.2.2.1 T (fun y hy => ⟨h.2.1 y ((cf_LM_mem N y).mp (hT y hy).1).2, (hT y hy).2⟩) x hx
  have h2 := ((cf_LM_mem N x).mp (hT x hx).1).2
  rw [h1] at h2; exact absurd h2 (by decide)
theorem cf_OK_D (h : cf_OK N G b t w M) : 0 < cf_D b t w (cf_LM M N) := cf_Pos_D (cf_OK_pos h)
theorem cf_OK_A0 (h : cf_OK N G b t w M) (x : Nat) : 0 ≤ cf_A G b t w (cf_LM M N) x := by
  refine cf_E_nn _ (fun s _ k hk => Int.le_of_lt (h.2.2.2.2.1 s k hk)) (fun ρ _ => ?_)
  by_cases e : G (ρ x) = true
  · rw [if_pos e]; decide
  · rw [if_neg e]; decide
theorem cf_A_root (G : Nat → Bool) {x : Nat} {L : List Nat} (hx : x ∉ L) : cf_A G b t w L x = cf_D b t w L * (if G x = true then 1 else 0) :=
  cf_E_root L (fun y => if G y = true then 1 else 0) hx
theorem cf_OK_nm {x : Nat} (hx : M x = false) : x ∉ cf_LM M N := fun h1 => by
  have h2 := ((cf_LM_mem N x).mp h1).2
  rw [hx] at h2; exact absurd h2 (by decide)
theorem cf_OK_Ag (h : cf_OK N G b t w M) {x : Nat} (hx : G x = true) : cf_A G b t w (cf_LM M N) x = cf_D b t w (cf_LM M N) := by
  have h1 : M x = false := by
    cases e : M x with
    | false => rfl
    | true => rw [h.2.1 x e] at hx; exact absurd hx (by decide)
  rw [cf_A_root G (cf_OK_nm h1), if_pos hx, Int.mul_one]
theorem cf_OK_Az {x : Nat} (hx : G x = false) (hm : M x = false) : cf_A G b t w (cf_LM M N) x = 0 := by
  rw [cf_A_root G (cf_OK_nm hm), hx]; exact Int.mul_zero _
theorem cf_or_f {x y : Bool} (h : ¬ (x = true ∨ y = true)) : x = false ∧ y = false := by
  cases x with
  | true => exact absurd (Or.inl rfl) h
  | false =>
    cases y with
    | true => exact absurd (Or.inr rfl) h
    | false => exact ⟨rfl, rfl⟩
theorem cf_OK_out (h : cf_OK N G b t w M) {x k : Nat} (hx : x < N) (hG : G x = false) (hm : M x = false) (hk : k < b x) : G (t x k) = false ∧ M (t x k) = false := by
  refine cf_or_f (fun h1 => ?_)
  rcases h.2.2.1 x hx k hk h1 with h2 | h2
  · rw [hG] at h2; exact absurd h2 (by decide)
  · rw [hm] at h2; exact absurd h2 (by decide)
/-- the equation of every state that is no goal -/
theorem cf_OK_eq (h : cf_OK N G b t w M) {x : Nat} (hx : x < N) (hG : G x = false) :
    cf_S (b x) (w x) * cf_A G b t w (cf_LM M N) x = cf_S (b x) (fun k => w x k * cf_A G b t w (cf_LM M N) (t x k)) := by
  cases e : M x with
  | true => exact cf_harm (cf_LM M N) (cf_LM_nd N) x ((cf_LM_mem N x).mpr ⟨hx, e⟩) (fun y => if G y = true then 1 else 0)
  | false =>
    rw [cf_OK_Az hG e, Int.mul_zero]
    refine (cf_S_z (fun k hk => ?_)).symm
    have h1 := cf_OK_out h hx hG e hk
    rw [cf_OK_Az h1.1 h1.2, Int.mul_zero]
end
theorem cf_argmax (h : Nat → Int) (P : Nat → Prop) : ∀ (n : Nat), (∃ y, y < n ∧ P y) → ∃ y, y < n ∧ P y ∧ ∀ z, z < n → P z → h z ≤ h y := by
  intro n
  induction n with
  | zero => rintro ⟨y, h1, _⟩; omega
  | succ n ih =>
    rintro ⟨y, h1, h2⟩
    by_cases hx : ∃ y, y < n ∧ P y
    · obtain ⟨m, h3, h4, h5⟩ := ih hx
      by_cases hn : P n
      · by_cases hm : h m ≤ h n
        · refine ⟨n, by omega, hn, fun z hz hz' => ?_⟩
          by_cases e : z = n
          · subst e; exact Int.le_refl _
          · exact Int.le_trans (h5 z (by omega) hz') hm
        · refine ⟨m, by omega, h4, fun z hz hz' => ?_⟩
          by_cases e : z = n
          · subst e; omega
          · exact h5 z (by omega) hz'
      · refine ⟨m, by omega, h4, fun z hz hz' => ?_⟩
        by_cases e : z = n
        · subst e; exact absurd hz' hn
        · exact h5 z (by omega) hz'
    · have e : y = n := by
        by_cases e : y = n
        · exact e
        · exact absurd ⟨y, by omega, h2⟩ hx
      subst e
      refine ⟨y, by omega, h2, fun z hz hz' => ?_⟩
      by_cases e : z = y
      · subst e; exact Int.le_refl _
      · exact absurd ⟨z, by omega, hz'⟩ hx
theorem cf_maxel (F : Nat → Prop) (R : Nat → Nat → Prop) (ir : ∀ x, ¬ R x x) (tr : ∀ x y z, R x y → R y z → R x z) : ∀ (n : Nat), (∃ y, y < n ∧ F y) → ∃ y, y < n ∧ F y ∧ ∀ z, z < n → F z → ¬ R y z := by
  intro n
  induction n with
  | zero => rintro ⟨y, h1, _⟩; omega
  | succ n ih =>
    rintro ⟨y, h1, h2⟩
    by_cases hx : ∃ y, y < n ∧ F y
    · obtain ⟨m, h3, h4, h5⟩ := ih hx
      by_cases hn : F n ∧ R m n
      · refine ⟨n, by omega, hn.1, fun z hz hz' hr => ?_⟩
        by_cases e : z = n
        · subst e; exact ir _ hr
        · exact h5 z (by omega) hz' (tr _ _ _ hn.2 hr)
      · refine ⟨m, by omega, h4, fun z hz hz' hr => ?_⟩
        by_cases e : z = n
        · subst e; exact hn ⟨hz', hr⟩
        · exact h5 z (by omega) hz' hr
    · have e : y = n := by
        by_cases e : y = n
        · exact e
        · exact absurd ⟨y, by omega, h2⟩ hx
      subst e
      refine ⟨y, by omega, h2, fun z hz hz' hr => ?_⟩
      by_cases e : z = y
      · subst e; exact ir _ hr
      · exact absurd ⟨z, by omega, hz'⟩ hx
section
variable {N : Nat} {G : Nat → Bool} {b : Nat → Nat} {t : Nat → Nat → Nat} {w : Nat → Nat → Int} {M : Nat → Bool}
variable {b' : Nat → Nat} {t' : Nat → Nat → Nat} {w' : Nat → Nat → Int} {M' : Nat → Bool}
/-- a plan whose chances no way of the other plan's actions betters is at least as good -/
theorem cf_opt (h : cf_OK N G b t w M) (h' : cf_OK N G b' t' w' M')
    (hs : ∀ x, x < N → G x = false → cf_S (b' x) (fun k => w' x k * cf_A G b t w (cf_LM M N) (t' x k)) ≤ cf_S (b' x) (w' x) * cf_A G b t w (cf_LM M N) x) (x : Nat) :
    cf_D b t w (cf_LM M N) * cf_A G b' t' w' (cf_LM M' N) x ≤ cf_D b' t' w' (cf_LM M' N) * cf_A G b t w (cf_LM M N) x := by
  have hw : ∀ s, s ∈ cf_LM M' N → ∀ k, k < b' s → 0 ≤ w' s k := fun s _ k hk => Int.le_of_lt (h'.2.2.2.2.1 s k hk)
  have h1 := cf_super (b := b') (t := t') (w := w') (cf_LM M' N) (cf_LM_nd N) hw (cf_OK_pos h') (cf_A G b t w (cf_LM M N)) (fun i hi => by
    have h2 := (cf_LM_mem N i).mp hi
    exact hs i h2.1 (h'.2.1 i h2.2)) x
  refine Int.le_trans ?_ h1
  unfold cf_A
  rw [← cf_E_mul]
  refine cf_E_le _ hw (fun ρ _ => ?_)
  by_cases e : G (ρ x) = true
  · rw [if_pos e, Int.mul_one]
    exact Int.le_of_eq (cf_OK_Ag h e).symm
  · rw [if_neg e, Int.mul_zero]
    exact cf_OK_A0 h _
theorem cf_imp_0 (h : cf_OK N G b t w M) (h' : cf_OK N G b' t' w' M') {s : Nat}
    (ag : ∀ x, x ≠ s → b x = b' x ∧ (∀ k, t x k = t' x k) ∧ (∀ k, w x k = w' x k))
    (st : cf_S (b' s) (w' s) * cf_A G b t w (cf_LM M N) s < cf_S (b' s) (fun k => w' s k * cf_A G b t w (cf_LM M N) (t' s k)))
    {y : Nat} (hy : y < N) (hG : G y = false) (hm : M' y = false) : cf_A G b t w (cf_LM M N) y = 0 := by
  obtain ⟨m, hm1, hm2, hm3⟩ := cf_argmax (cf_A G b t w (cf_LM M N)) (fun y => G y = false ∧ M' y = false) N ⟨y, hy, hG, hm⟩
  have h1 := hm3 y hy ⟨hG, hm⟩
  have h2 := cf_OK_A0 h y
  refine Classical.byContradiction (fun hne => ?_)
  have h3 : 0 < cf_A G b t w (cf_LM M N) m := by omega
  have hcl := h.2.2.2.1 (fun x => x < N ∧ G x = false ∧ M' x = false ∧ cf_A G b t w (cf_LM M N) x = cf_A G b t w (cf_LM M N) m) (fun x hx => by
    obtain ⟨x1, x2, x3, x4⟩ := hx
    have hs : x ≠ s := by
      intro e
      subst e
      have h4 : cf_S (b' x) (fun k => w' x k * cf_A G b t w (cf_LM M N) (t' x k)) ≤ cf_S (b' x) (fun k => w' x k * cf_A G b t w (cf_LM M N) m) := by
        refine cf_S_le (fun k hk => Int.mul_le_mul_of_nonneg_left ?_ (Int.le_of_lt (h'.2.2.2.2.1 x k hk)))
        exact hm3 _ (h'.2.2.2.2.2.1 x k) (cf_OK_out h' x1 x2 x3 hk)
      rw [cf_S_mulr, ← x4] at h4
      omega
    refine ⟨x2, fun k hk => ?_⟩
    obtain ⟨a1, a2, a3⟩ := ag x hs
    have h5 : ∀ k, k < b x → G (t x k) = false ∧ M' (t x k) = false := fun k hk => by
      rw [a2 k]; exact cf_OK_out h' x1 x2 x3 (by omega)
    have h6 := cf_OK_eq h x1 x2
    rw [x4, ← cf_S_mulr] at h6
    have h7 := cf_S_lt (f := fun k => w x k * cf_A G b t w (cf_LM M N) (t x k)) (g := fun k => w x k * cf_A G b t w (cf_LM M N) m) (fun k hk => Int.mul_le_mul_of_nonneg_left (hm3 _ (h.2.2.2.2.2.1 x k) (h5 k hk)) (Int.le_of_lt (h.2.2.2.2.1 x k hk))) h6.symm k hk
    have h8 : w x k * cf_A G b t w (cf_LM M N) (t x k) = w x k * cf_A G b t w (cf_LM M N) m := h7
    have h9 := h.2.2.2.2.1 x k hk
    exact ⟨h.2.2.2.2.2.1 x k, (h5 k hk).1, (h5 k hk).2, Int.eq_of_mul_eq_mul_left (by omega) h8⟩) m ⟨hm1, hm2.1, hm2.2, rfl⟩
  rw [cf_OK_Az hm2.1 hcl] at h3
  omega
theorem cf_imp (h : cf_OK N G b t w M) (h' : cf_OK N G b' t' w' M') {s : Nat} (hsN : s < N) (hsG : G s = false)
    (ag : ∀ x, x ≠ s → b x = b' x ∧ (∀ k, t x k = t' x k) ∧ (∀ k, w x k = w' x k))
    (st : cf_S (b' s) (w' s) * cf_A G b t w (cf_LM M N) s < cf_S (b' s) (fun k => w' s k * cf_A G b t w (cf_LM M N) (t' s k))) (x : Nat) :
    cf_D b' t' w' (cf_LM M' N) * cf_A G b t w (cf_LM M N) x ≤ cf_D b t w (cf_LM M N) * cf_A G b' t' w' (cf_LM M' N) x := by
  have hw : ∀ s, s ∈ cf_LM M' N → ∀ k, k < b' s → 0 ≤ w' s k := fun s _ k hk => Int.le_of_lt (h'.2.2.2.2.1 s k hk)
  have h1 := cf_super (b := b') (t := t') (w := w') (cf_LM M' N) (cf_LM_nd N) hw (cf_OK_pos h') (fun y => - cf_A G b t w (cf_LM M N) y) (fun i hi => by
    have h2 := (cf_LM_mem N i).mp hi
    have e : cf_S (b' i) (fun a => w' i a * (- cf_A G b t w (cf_LM M N) (t' i a))) = (-1) * cf_S (b' i) (fun a => w' i a * cf_A G b t w (cf_LM M N) (t' i a)) := by
      rw [← cf_S_mul]
      exact cf_S_congr (fun a _ => by rw [Int.mul_neg, Int.neg_mul, Int.one_mul])
    show cf_S (b' i) (fun a => w' i a * (- cf_A G b t w (cf_LM M N) (t' i a))) ≤ cf_S (b' i) (w' i) * (- cf_A G b t w (cf_LM M N) i)
    rw [e, Int.mul_neg]
    by_cases hi' : i = s
    · subst hi'; omega
    · obtain ⟨a1, a2, a3⟩ := ag i hi'
      have h3 := cf_OK_eq h h2.1 (h'.2.1 i h2.2)
      have h4 : cf_S (b i) (w i) = cf_S (b' i) (w' i) := by rw [a1]; exact cf_S_congr (fun k _ => a3 k)
      have h5 : cf_S (b i) (fun k => w i k * cf_A G b t w (cf_LM M N) (t i k)) = cf_S (b' i) (fun k => w' i k * cf_A G b t w (cf_LM M N) (t' i k)) := by
        rw [a1]; exact cf_S_congr (fun k _ => by rw [a2 k, a3 k])
      rw [h4, h5] at h3
      omega) x
  have h6 : - cf_E b' t' w' (cf_LM M' N) (fun ρ => cf_A G b t w (cf_LM M N) (ρ x)) ≤ cf_D b' t' w' (cf_LM M' N) * (- cf_A G b t w (cf_LM M N) x) := by
    rw [← cf_E_neg]; exact h1
  rw [Int.mul_neg] at h6
  have h7 : cf_E b' t' w' (cf_LM M' N) (fun ρ => cf_A G b t w (cf_LM M N) (ρ x)) = cf_D b t w (cf_LM M N) * cf_A G b' t' w' (cf_LM M' N) x := by
    conv => rhs; unfold cf_A
    rw [← cf_E_mul]
    refine cf_E_congr _ (fun ρ hρ => ?_)
    by_cases e : G (ρ x) = true
    · rw [if_pos e, Int.mul_one]
      exact cf_OK_Ag h e
    · rw [if_neg e, Int.mul_zero]
      have eG : G (ρ x) = false := by
        cases e2 : G (ρ x) with
        | false => rfl
        | true => exact absurd e2 e
      by_cases hN : ρ x < N
      · refine cf_imp_0 h h' ag st hN eG ?_
        cases e2 : M' (ρ x) with
        | false => rfl
        | true => exact absurd ((cf_LM_mem N (ρ x)).mpr ⟨hN, e2⟩) (hρ.2 x)
      · refine cf_OK_Az eG ?_
        cases e2 : M (ρ x) with
        | false => rfl
        | true => exact absurd (h.1 _ e2) hN
  omega
theorem cf_imp_s (h : cf_OK N G b t w M) (h' : cf_OK N G b' t' w' M') {s : Nat} (hsN : s < N) (hsG : G s = false)
    (ag : ∀ x, x ≠ s → b x = b' x ∧ (∀ k, t x k = t' x k) ∧ (∀ k, w x k = w' x k))
    (st : cf_S (b' s) (w' s) * cf_A G b t w (cf_LM M N) s < cf_S (b' s) (fun k => w' s k * cf_A G b t w (cf_LM M N) (t' s k))) :
    cf_D b' t' w' (cf_LM M' N) * cf_A G b t w (cf_LM M N) s < cf_D b t w (cf_LM M N) * cf_A G b' t' w' (cf_LM M' N) s := by
  have hi := cf_imp h h' hsN hsG ag st
  have h1 := cf_OK_eq h' hsN hsG
  have hD' := cf_OK_D h'
  have h2 : cf_D b' t' w' (cf_LM M' N) * cf_S (b' s) (fun k => w' s k * cf_A G b t w (cf_LM M N) (t' s k)) ≤ cf_D b t w (cf_LM M N) * cf_S (b' s) (fun k => w' s k * cf_A G b' t' w' (cf_LM M' N) (t' s k)) := by
    rw [← cf_S_mul, ← cf_S_mul]
    refine cf_S_le (fun k hk => ?_)
    rw [Int.mul_left_comm, Int.mul_left_comm (cf_D b t w (cf_LM M N))]
    exact Int.mul_le_mul_of_nonneg_left (hi _) (Int.le_of_lt (h'.2.2.2.2.1 s k hk))
  rw [← h1] at h2
  have h3 := Int.mul_lt_mul_of_pos_left st hD'
  rw [Int.mul_left_comm] at h3
  rw [Int.mul_left_comm (cf_D b t w (cf_LM M N))] at h2
  have hW : 0 ≤ cf_S (b' s) (w' s) := cf_S_nn (fun k hk => Int.le_of_lt (h'.2.2.2.2.1 s k hk))
  refine Classical.byContradiction (fun hn => ?_)
  have h4 := Int.mul_le_mul_of_nonneg_left (Int.not_lt.mp hn) hW
  omega
end
end
section
/-! the world: what both objects hold; the hopeful states as a set of bits -/
def cf_ca (mm : Nat → Nat) (P s : Nat) : Nat := if P.testBit s = true ∧ 0 < mm (2 * s + 1) then 2 * s + 1 else 2 * s
def cf_b (mm : Nat → Nat) (P s : Nat) : Nat := mm (cf_ca mm P s)
def cf_t (mm nx : Nat → Nat) (P s k : Nat) : Nat := nx (3 * cf_ca mm P s + k)
def cf_w (mm sh : Nat → Nat) (P s k : Nat) : Int := ((sh (3 * cf_ca mm P s + k) : Nat) : Int)
def cf_Wd (N : Nat) (g : Int32) (mm nx sh : Nat → Nat) : Prop :=
  2 ≤ N ∧ N ≤ 6 ∧ (∀ i, N ≤ i → bt g i = false) ∧ (∀ j, mm j ≤ 3) ∧ (∀ j, nx j < N) ∧ (∀ j, sh j ≤ 9)
  ∧ (∀ j k, k < mm j → 1 ≤ sh (3 * j + k)) ∧ (∀ s, mm (2 * s) = 0 → mm (2 * s + 1) = 0)
def cf_an (f : Nat → Bool) : Nat → Bool
  | 0 => false
  | n + 1 => cf_an f n || f n
def cf_bit (s : Nat) : Int32 := (1 : Int32) <<< (nI s &&& 31)
def cf_st (b : Nat → Nat) (t : Nat → Nat → Nat) (x : Int32) (s : Nat) : Int32 := if cf_an (fun k => bt x (t s k)) (b s) = true then x ||| cf_bit s else x
def cf_rd (b : Nat → Nat) (t : Nat → Nat → Nat) (x : Int32) : Nat → Int32
  | 0 => x
  | s + 1 => cf_st b t (cf_rd b t x s) s
def cf_rr (b : Nat → Nat) (t : Nat → Nat → Nat) (N : Nat) (g : Int32) : Nat → Int32
  | 0 => g
  | r + 1 => cf_rd b t (cf_rr b t N g r) N
theorem cf_an_iff (f : Nat → Bool) (n : Nat) : cf_an f n = true ↔ ∃ k, k < n ∧ f k = true := by
  induction n with
  | zero => exact ⟨fun h => Bool.noConfusion (show false = true from h), fun ⟨k, h, _⟩ => absurd h (by omega)⟩
  | succ n ih =>
    show (cf_an f n || f n) = true ↔ _
    rw [Bool.or_eq_true, ih]
    constructor
    · rintro (⟨k, h1, h2⟩ | h)
      · exact ⟨k, by omega, h2⟩
      · exact ⟨n, by omega, h⟩
    · rintro ⟨k, h1, h2⟩
      by_cases e : k = n
      · subst e; exact Or.inr h2
      · exact Or.inl ⟨k, by omega, h2⟩
theorem cf_bt1 (i : Nat) : bt 1 i = decide (i = 0) := by
  by_cases h : i < 32
  · have h1 : ∀ i, i < 32 → bt 1 i = decide (i = 0) := by decide +kernel
    exact h1 i h
  · rw [b_big (by omega), decide_eq_false (by omega)]
theorem cf_btb {s : Nat} (hs : s < 32) (i : Nat) : bt (cf_bit s) i = decide (i = s) := by
  by_cases h : i < 32
  · unfold cf_bit
    rw [b_shl s hs 1 h, cf_bt1]
    by_cases e : i = s
    · subst e; rw [decide_eq_true (Nat.le_refl _), decide_eq_true (by omega), decide_eq_true rfl]; rfl
    · rw [decide_eq_false e]
      by_cases e2 : s ≤ i
      · rw [decide_eq_true e2, decide_eq_false (by omega)]; rfl
      · rw [decide_eq_false e2]; rfl
  · rw [b_big (by omega), decide_eq_false (by omega)]
theorem cf_bto {s : Nat} (hs : s < 32) (x : Int32) (i : Nat) : bt (x ||| cf_bit s) i = (bt x i || decide (i = s)) := by
  rw [b_or, cf_btb hs]
section
variable {b : Nat → Nat} {t : Nat → Nat → Nat}
theorem cf_st_mono {s : Nat} (hs : s < 32) {x : Int32} {i : Nat} (h : bt x i = true) : bt (cf_st b t x s) i = true := by
  unfold cf_st
  by_cases e : cf_an (fun k => bt x (t s k)) (b s) = true
  · rw [if_pos e, cf_bto hs, h]; rfl
  · rw [if_neg e]; exact h
theorem cf_rd_mono {x : Int32} {i m : Nat} : ∀ {n : Nat}, n ≤ 32 → m ≤ n → bt (cf_rd b t x m) i = true → bt (cf_rd b t x n) i = true := by
  intro n
  induction n with
  | zero => intro _ h1 h; have e : m = 0 := by omega
            subst e; exact h
  | succ n ih =>
    intro hn h1 h
    by_cases e : m = n + 1
    · subst e; exact h
    · exact cf_st_mono (by omega) (ih (by omega) (by omega) h)
theorem cf_rd_new {x : Int32} {i : Nat} : ∀ {n : Nat}, n ≤ 32 → bt (cf_rd b t x n) i = true → bt x i = true ∨ i < n := by
  intro n
  induction n with
  | zero => intro _ h; exact Or.inl h
  | succ n ih =>
    intro hn h
    have h1 : bt (cf_st b t (cf_rd b t x n) n) i = true := h
    unfold cf_st at h1
    by_cases e : cf_an (fun k => bt (cf_rd b t x n) (t n k)) (b n) = true
    · rw [if_pos e, cf_bto (by omega), Bool.or_eq_true] at h1
      rcases h1 with h2 | h2
      · rcases ih (by omega) h2 with h3 | h3
        · exact Or.inl h3
        · exact Or.inr (by omega)
      · exact Or.inr (by have := of_decide_eq_true h2; omega)
    · rw [if_neg e] at h1
      rcases ih (by omega) h1 with h3 | h3
      · exact Or.inl h3
      · exact Or.inr (by omega)
theorem cf_rd_T (T : Nat → Prop) (hT : ∀ x, T x → ∀ k, k < b x → T (t x k)) {x : Int32} (h0 : ∀ i, T i → bt x i = false) : ∀ {n : Nat}, n ≤ 32 → ∀ i, T i → bt (cf_rd b t x n) i = false := by
  intro n
  induction n with
  | zero => intro _; exact h0
  | succ n ih =>
    intro hn i hi
    have ih' := ih (by omega)
    show bt (cf_st b t (cf_rd b t x n) n) i = false
    unfold cf_st
    by_cases e : cf_an (fun k => bt (cf_rd b t x n) (t n k)) (b n) = true
    · rw [if_pos e, cf_bto (by omega), ih' i hi]
      by_cases e2 : i = n
      · subst e2
        obtain ⟨k, h1, h2⟩ := (cf_an_iff _ _).mp e
        rw [ih' _ (hT i hi k h1)] at h2
        exact absurd h2 (by decide)
      · rw [decide_eq_false e2]; rfl
    · rw [if_neg e]; exact ih' i hi
theorem cf_rd_cl {x : Int32} {N : Nat} (hN : N ≤ 32) (st : cf_rd b t x N = x) {s k : Nat} (hs : s < N) (hk : k < b s) (h : bt x (t s k) = true) : bt x s = true := by
  have h1 : bt (cf_rd b t x (s + 1)) s = true := by
    show bt (cf_st b t (cf_rd b t x s) s) s = true
    unfold cf_st
    have h2 : bt (cf_rd b t x s) (t s k) = true := cf_rd_mono (m := 0) (by omega) (by omega) h
    rw [if_pos ((cf_an_iff _ _).mpr ⟨k, hk, h2⟩), cf_bto (by omega), decide_eq_true rfl, Bool.or_true]
  have h3 := cf_rd_mono (n := N) (by omega) (by omega) h1
  rw [st] at h3; exact h3
theorem cf_cn_le {M K : Nat → Bool} (h : ∀ i, M i = true → K i = true) (n : Nat) : cf_rk M n ≤ cf_rk K n := by
  induction n with
  | zero => exact Nat.le_refl _
  | succ n ih =>
    by_cases hm : M n = true
    · rw [cf_rk_t hm, cf_rk_t (h n hm)]; omega
    · rw [cf_rk_f hm]
      by_cases hk : K n = true
      · rw [cf_rk_t hk]; omega
      · rw [cf_rk_f hk]; omega
theorem cf_cn_lt {M K : Nat → Bool} (h : ∀ i, M i = true → K i = true) {j : Nat} (h1 : ¬ M j = true) (h2 : K j = true) : ∀ {n : Nat}, j < n → cf_rk M n < cf_rk K n := by
  intro n
  induction n with
  | zero => intro h; omega
  | succ n ih =>
    intro hj
    by_cases e : j = n
    · subst e
      have h3 := cf_cn_le h j
      rw [cf_rk_f h1, cf_rk_t h2]; omega
    · have h3 := ih (by omega)
      by_cases hm : M n = true
      · rw [cf_rk_t hm, cf_rk_t (h n hm)]; omega
      · rw [cf_rk_f hm]
        by_cases hk : K n = true
        · rw [cf_rk_t hk]; omega
        · rw [cf_rk_f hk]; omega
theorem cf_rd_empty {x : Int32} (h : ∀ i, bt x i = false) (n : Nat) : cf_rd b t x n = x := by
  induction n with
  | zero => rfl
  | succ n ih =>
    show cf_st b t (cf_rd b t x n) n = x
    rw [ih]
    unfold cf_st
    rw [if_neg]
    intro e
    obtain ⟨k, _, h2⟩ := (cf_an_iff _ _).mp e
    rw [h] at h2; exact absurd h2 (by decide)
theorem cf_rr_hi {N : Nat} (hN : N ≤ 32) {g : Int32} (hg : ∀ i, N ≤ i → bt g i = false) : ∀ (r i : Nat), N ≤ i → bt (cf_rr b t N g r) i = false := by
  intro r
  induction r with
  | zero => exact hg
  | succ r ih =>
    intro i hi
    cases e : bt (cf_rr b t N g (r + 1)) i with
    | false => rfl
    | true =>
      rcases cf_rd_new hN e with h1 | h1
      · rw [ih i hi] at h1; exact absurd h1 (by decide)
      · omega
theorem cf_rr_cn {N : Nat} (hN : N ≤ 32) {g : Int32} (hg : ∀ i, N ≤ i → bt g i = false) : ∀ (r : Nat), cf_rd b t (cf_rr b t N g r) N = cf_rr b t N g r ∨ r + 1 ≤ cf_rk (bt (cf_rr b t N g r)) N := by
  intro r
  induction r with
  | zero =>
    by_cases h : ∃ i, i < N ∧ bt g i = true
    · obtain ⟨i, h1, h2⟩ := h
      refine Or.inr ?_
      have h3 := cf_rk_lt (M := bt g) h2 h1
      show 0 + 1 ≤ cf_rk (bt g) N
      omega
    · refine Or.inl (cf_rd_empty (fun i => ?_) N)
      cases e : bt (cf_rr b t N g 0) i with
      | false => rfl
      | true =>
        by_cases hi : i < N
        · exact absurd ⟨i, hi, e⟩ h
        · have h1 := hg i (by omega)
          have h2 : bt g i = true := e
          rw [h1] at h2; exact absurd h2 (by decide)
  | succ r ih =>
    by_cases hs : cf_rd b t (cf_rr b t N g r) N = cf_rr b t N g r
    · refine Or.inl ?_
      have h1 : cf_rr b t N g (r + 1) = cf_rr b t N g r := hs
      rw [h1, hs]
    · refine Or.inr ?_
      have h1 := ih.resolve_left hs
      have h2 : ∀ i, bt (cf_rr b t N g r) i = true → bt (cf_rr b t N g (r + 1)) i = true := fun i h => cf_rd_mono (m := 0) hN (by omega) h
      have h3 : ∃ i, ¬ bt (cf_rr b t N g r) i = true ∧ bt (cf_rr b t N g (r + 1)) i = true := by
        refine Classical.byContradiction (fun hn => hs (b_ext (fun i _ => ?_)))
        cases e : bt (cf_rr b t N g r) i with
        | true => exact h2 i e
        | false =>
          cases e2 : bt (cf_rd b t (cf_rr b t N g r) N) i with
          | false => rfl
          | true => exact absurd ⟨i, by rw [e]; decide, e2⟩ hn
      obtain ⟨i, h4, h5⟩ := h3
      have h6 : i < N := by
        refine Classical.byContradiction (fun hn => ?_)
        have h7 := cf_rr_hi (b := b) (t := t) hN hg (r + 1) i (by omega)
        rw [h7] at h5; exact absurd h5 (by decide)
      have h8 := cf_cn_lt h2 h4 h5 h6
      omega
theorem cf_rr_st {N : Nat} (hN : N ≤ 32) {g : Int32} (hg : ∀ i, N ≤ i → bt g i = false) : cf_rd b t (cf_rr b t N g N) N = cf_rr b t N g N := by
  rcases cf_rr_cn (b := b) (t := t) hN hg N with h | h
  · exact h
  · have h1 := cf_rk_le (M := bt (cf_rr b t N g N)) N
    omega
theorem cf_rr_6 {N : Nat} (hN : N ≤ 32) {g : Int32} (hg : ∀ i, N ≤ i → bt g i = false) (d : Nat) : cf_rr b t N g (N + d) = cf_rr b t N g N := by
  induction d with
  | zero => rfl
  | succ d ih =>
    show cf_rd b t (cf_rr b t N g (N + d)) N = _
    rw [ih]; exact cf_rr_st hN hg
theorem cf_rr_g {N : Nat} (hN : N ≤ 32) {g : Int32} {i : Nat} (h : bt g i = true) : ∀ (r : Nat), bt (cf_rr b t N g r) i = true := by
  intro r
  induction r with
  | zero => exact h
  | succ r ih => exact cf_rd_mono (m := 0) hN (by omega) ih
theorem cf_rr_T {N : Nat} (hN : N ≤ 32) {g : Int32} (T : Nat → Prop) (hT : ∀ x, T x → bt g x = false ∧ ∀ k, k < b x → T (t x k)) : ∀ (r i : Nat), T i → bt (cf_rr b t N g r) i = false := by
  intro r
  induction r with
  | zero => intro i hi; exact (hT i hi).1
  | succ r ih => exact cf_rd_T T (fun x hx => (hT x hx).2) ih hN
end
def cf_hp (N : Nat) (g : Int32) (mm nx : Nat → Nat) (P : Nat) : Int32 := cf_rr (cf_b mm P) (cf_t mm nx P) N g N
def cf_M (N : Nat) (g : Int32) (mm nx : Nat → Nat) (P s : Nat) : Bool := bt (cf_hp N g mm nx P) s && !bt g s
def cf_AA (N : Nat) (g : Int32) (mm nx sh : Nat → Nat) (P x : Nat) : Int := cf_A (bt g) (cf_b mm P) (cf_t mm nx P) (cf_w mm sh P) (cf_LM (cf_M N g mm nx P) N) x
def cf_DD (N : Nat) (g : Int32) (mm nx sh : Nat → Nat) (P : Nat) : Int := cf_D (cf_b mm P) (cf_t mm nx P) (cf_w mm sh P) (cf_LM (cf_M N g mm nx P) N)
def cf_fit (N : Nat) (mm : Nat → Nat) (P : Nat) : Prop := P < 2 ^ N ∧ ∀ s, P.testBit s = true → 0 < mm (2 * s + 1)
section
variable {N : Nat} {g : Int32} {mm nx sh : Nat → Nat}
theorem cf_M_iff (P s : Nat) : cf_M N g mm nx P s = true ↔ bt (cf_hp N g mm nx P) s = true ∧ bt g s = false := by
  unfold cf_M
  rw [Bool.and_eq_true, Bool.not_eq_true']
theorem cf_W_OK (W : cf_Wd N g mm nx sh) (P : Nat) : cf_OK N (bt g) (cf_b mm P) (cf_t mm nx P) (cf_w mm sh P) (cf_M N g mm nx P) := by
  obtain ⟨h1, h2, h3, h4, h5, h6, h7, h8⟩ := W
  have hN : N ≤ 32 := by omega
  have hG : ∀ x, bt g x = true → x < N := fun x hx => by
    refine Classical.byContradiction (fun hn => ?_)
    rw [h3 x (by omega)] at hx; exact absurd hx (by decide)
  refine ⟨fun x hx => ?_, fun x hx => ((cf_M_iff P x).mp hx).2, fun x hx k hk h => ?_, fun T hT x hx => ?_, fun x k hk => ?_, fun x k => h5 _, hG⟩
  · refine Classical.byContradiction (fun hn => ?_)
    have e := ((cf_M_iff P x).mp hx).1
    rw [show bt (cf_hp N g mm nx P) x = false from cf_rr_hi hN h3 N x (by omega)] at e
    exact absurd e (by decide)
  · have e : bt (cf_hp N g mm nx P) (cf_t mm nx P x k) = true := by
      rcases h with h | h
      · exact cf_rr_g hN h N
      · exact ((cf_M_iff P _).mp h).1
    have e2 : bt (cf_hp N g mm nx P) x = true := cf_rd_cl hN (cf_rr_st hN h3) hx hk e
    cases e3 : bt g x with
    | true => exact Or.inl rfl
    | false => exact Or.inr ((cf_M_iff P x).mpr ⟨e2, e3⟩)
  · have e : bt (cf_hp N g mm nx P) x = false := cf_rr_T hN T hT N x hx
    unfold cf_M
    rw [e]; rfl
  · have e := h7 (cf_ca mm P x) k hk
    show 0 < ((sh (3 * cf_ca mm P x + k) : Nat) : Int)
    omega
theorem cf_W_W (W : cf_Wd N g mm nx sh) (P s : Nat) : cf_S (cf_b mm P s) (cf_w mm sh P s) ≤ 27 := by
  obtain ⟨h1, h2, h3, h4, h5, h6, h7, h8⟩ := W
  have e : ∀ n, cf_S n (cf_w mm sh P s) ≤ 9 * (n : Int) := by
    intro n
    induction n with
    | zero => exact Int.le_refl _
    | succ n ih =>
      show cf_S n (cf_w mm sh P s) + cf_w mm sh P s n ≤ _
      have e1 : cf_w mm sh P s n ≤ 9 := by
        have := h6 (3 * cf_ca mm P s + n)
        show ((sh (3 * cf_ca mm P s + n) : Nat) : Int) ≤ 9
        omega
      omega
  have e2 := e (cf_b mm P s)
  have e3 : cf_b mm P s ≤ 3 := h4 _
  omega
theorem cf_W_len (W : cf_Wd N g mm nx sh) (P : Nat) : (cf_LM (cf_M N g mm nx P) N).length ≤ 6 := by
  rw [cf_LM_len]
  have h1 := cf_rk_le (M := cf_M N g mm nx P) N
  have h2 := W.2.1
  omega
theorem cf_W_D (W : cf_Wd N g mm nx sh) (P : Nat) : 0 < cf_DD N g mm nx sh P ∧ cf_DD N g mm nx sh P ≤ 387420489 := by
  refine ⟨cf_OK_D (cf_W_OK W P), Int.le_trans (cf_bound _ (fun s _ k hk => Int.le_of_lt ((cf_W_OK W P).2.2.2.2.1 s k hk)) (fun s _ => cf_W_W W P s) _ (fun _ => by decide)) (cf_p27 (cf_W_len W P))⟩
theorem cf_W_A (W : cf_Wd N g mm nx sh) (P x : Nat) : 0 ≤ cf_AA N g mm nx sh P x ∧ cf_AA N g mm nx sh P x ≤ 387420489 := by
  refine ⟨cf_OK_A0 (cf_W_OK W P) x, Int.le_trans (cf_bound _ (fun s _ k hk => Int.le_of_lt ((cf_W_OK W P).2.2.2.2.1 s k hk)) (fun s _ => cf_W_W W P s) _ (fun ρ => ?_)) (cf_p27 (cf_W_len W P))⟩
  by_cases e : bt g (ρ x) = true
  · rw [if_pos e]; decide
  · rw [if_neg e]; decide
/-- the plan with the other action at s -/
theorem cf_sw_bit (P s i : Nat) : (P ^^^ 2 ^ s).testBit i = (P.testBit i ^^ decide (s = i)) := by
  rw [Nat.testBit_xor, Nat.testBit_two_pow]
theorem cf_sw_ca {P s x : Nat} (h : x ≠ s) : cf_ca mm (P ^^^ 2 ^ s) x = cf_ca mm P x := by
  unfold cf_ca
  rw [cf_sw_bit, decide_eq_false (fun e => h e.symm), Bool.xor_false]
theorem cf_sw_fit {P s : Nat} (hs : s < N) (h2 : 0 < mm (2 * s + 1)) (h : cf_fit N mm P) : cf_fit N mm (P ^^^ 2 ^ s) := by
  refine ⟨Nat.xor_lt_two_pow h.1 (Nat.pow_lt_pow_right (by decide) hs), fun i hi => ?_⟩
  by_cases e : i = s
  · subst e; exact h2
  · rw [cf_sw_bit, decide_eq_false (fun e' => e e'.symm), Bool.xor_false] at hi
    exact h.2 i hi
/-- any plan's action at x is the plan's own or the switched one -/
theorem cf_sw_two {P Q x : Nat} (h : cf_ca mm Q x ≠ cf_ca mm P x) : 0 < mm (2 * x + 1) ∧ cf_ca mm Q x = cf_ca mm (P ^^^ 2 ^ x) x := by
  unfold cf_ca at h ⊢
  rw [cf_sw_bit, decide_eq_true rfl, Bool.xor_true]
  by_cases h2 : 0 < mm (2 * x + 1)
  · refine ⟨h2, ?_⟩
    cases e1 : Q.testBit x <;> cases e2 : P.testBit x <;> simp [e1, e2, h2] at h ⊢
  · simp [h2] at h
theorem cf_tr {a d a' d' a'' d'' : Int} (h0 : 0 ≤ d) (h1 : 0 < d') (h2 : 0 ≤ d'') (x : d' * a ≤ d * a') (y : d'' * a' ≤ d' * a'') : d'' * a ≤ d * a'' := by
  have h3 := Int.mul_le_mul_of_nonneg_left x h2
  have h4 := Int.mul_le_mul_of_nonneg_left y h0
  refine Int.le_of_mul_le_mul_left (a := d') ?_ h1
  rw [Int.mul_left_comm, Int.mul_left_comm d' d]
  rw [Int.mul_left_comm d'' d] at h3
  omega
theorem cf_trs {a d a' d' a'' d'' : Int} (h0 : 0 ≤ d) (h1 : 0 < d') (h2 : 0 < d'') (x : d' * a < d * a') (y : d'' * a' ≤ d' * a'') : d'' * a < d * a'' := by
  have h3 := Int.mul_lt_mul_of_pos_left x h2
  have h4 := Int.mul_le_mul_of_nonneg_left y h0
  refine Int.lt_of_mul_lt_mul_left (a := d') ?_ (Int.le_of_lt h1)
  rw [Int.mul_left_comm, Int.mul_left_comm d' d]
  rw [Int.mul_left_comm d'' d] at h3
  omega
theorem cf_best_ex (W : cf_Wd N g mm nx sh) : ∃ P, cf_fit N mm P ∧ ∀ Q x, cf_DD N g mm nx sh P * cf_AA N g mm nx sh Q x ≤ cf_DD N g mm nx sh Q * cf_AA N g mm nx sh P x := by
  obtain ⟨P, hP, hF, hm⟩ := cf_maxel (cf_fit N mm) (fun P Q => (∀ x, cf_DD N g mm nx sh Q * cf_AA N g mm nx sh P x ≤ cf_DD N g mm nx sh P * cf_AA N g mm nx sh Q x) ∧ ∃ x, cf_DD N g mm nx sh Q * cf_AA N g mm nx sh P x < cf_DD N g mm nx sh P * cf_AA N g mm nx sh Q x)
    (fun P h => by obtain ⟨x, hx⟩ := h.2; omega)
    (fun P Q R h1 h2 => ⟨fun x => cf_tr (Int.le_of_lt (cf_W_D W P).1) (cf_W_D W Q).1 (Int.le_of_lt (cf_W_D W R).1) (h1.1 x) (h2.1 x), by
      obtain ⟨x, hx⟩ := h1.2
      exact ⟨x, cf_trs (Int.le_of_lt (cf_W_D W P).1) (cf_W_D W Q).1 (cf_W_D W R).1 hx (h2.1 x)⟩⟩)
    (2 ^ N) ⟨0, Nat.pow_pos (by decide), Nat.pow_pos (by decide), fun s hs => by rw [Nat.zero_testBit] at hs; exact absurd hs (by decide)⟩
  refine ⟨P, hF, fun Q x => cf_opt (cf_W_OK W P) (cf_W_OK W Q) (fun x hx hG => ?_) x⟩
  by_cases e : cf_ca mm Q x = cf_ca mm P x
  · have h1 := cf_OK_eq (cf_W_OK W P) hx hG
    have h2 : cf_b mm Q x = cf_b mm P x := by unfold cf_b; rw [e]
    have h3 : cf_w mm sh Q x = cf_w mm sh P x := by funext k; unfold cf_w; rw [e]
    have h4 : cf_t mm nx Q x = cf_t mm nx P x := by funext k; unfold cf_t; rw [e]
    rw [h2, h3, h4]
    exact Int.le_of_eq h1.symm
  · obtain ⟨h0, h1⟩ := cf_sw_two e
    have h2 : cf_b mm Q x = cf_b mm (P ^^^ 2 ^ x) x := by unfold cf_b; rw [h1]
    have h3 : cf_w mm sh Q x = cf_w mm sh (P ^^^ 2 ^ x) x := by funext k; unfold cf_w; rw [h1]
    have h4 : cf_t mm nx Q x = cf_t mm nx (P ^^^ 2 ^ x) x := by funext k; unfold cf_t; rw [h1]
    rw [h2, h3, h4]
    refine Classical.byContradiction (fun hn => ?_)
    have hag : ∀ y, y ≠ x → cf_b mm P y = cf_b mm (P ^^^ 2 ^ x) y ∧ (∀ k, cf_t mm nx P y k = cf_t mm nx (P ^^^ 2 ^ x) y k) ∧ (∀ k, cf_w mm sh P y k = cf_w mm sh (P ^^^ 2 ^ x) y k) := fun y hy => by
      unfold cf_b cf_t cf_w
      rw [cf_sw_ca hy]; exact ⟨rfl, fun _ => rfl, fun _ => rfl⟩
    have hfit := cf_sw_fit hx h0 hF
    refine hm (P ^^^ 2 ^ x) hfit.1 hfit ⟨fun y => cf_imp (cf_W_OK W P) (cf_W_OK W _) hx hG hag (by omega) y, x, cf_imp_s (cf_W_OK W P) (cf_W_OK W _) hx hG hag (by omega)⟩
end
end
section
/-! ints: bits, indices, masks -/
theorem cf_sr {s : Nat} (hs : s < 32) (x : Int32) : ((x >>> (nI s &&& 31)) &&& 1) = if bt x s = true then 1 else 0 := by
  refine b_ext (fun i hi => ?_)
  rw [b_and, b_sshr s hs x hi, cf_bt1]
  by_cases e : i = 0
  · subst e
    rw [Nat.add_zero, if_pos hs, decide_eq_true rfl, Bool.and_true]
    cases h : bt x s with
    | true => rw [if_pos rfl, cf_bt1]; rfl
    | false => rw [if_neg (by decide), b_0]
  · rw [decide_eq_false e, Bool.and_false]
    cases h : bt x s with
    | true => rw [if_pos rfl, cf_bt1, decide_eq_false e]
    | false => rw [if_neg (by decide), b_0]
theorem cf_sr1 {s : Nat} (hs : s < 32) (x : Int32) : ((x >>> (nI s &&& 31)) &&& 1) = 1 ↔ bt x s = true := by
  rw [cf_sr hs]
  cases h : bt x s with
  | true => rw [if_pos rfl]; exact ⟨fun _ => rfl, fun _ => rfl⟩
  | false => rw [if_neg (by decide)]; exact ⟨fun e => absurd e (by decide), fun e => absurd e (by decide)⟩
theorem cf_sr0 {s : Nat} (hs : s < 32) (x : Int32) : ((x >>> (nI s &&& 31)) &&& 1) = 0 ↔ bt x s = false := by
  rw [cf_sr hs]
  cases h : bt x s with
  | true => rw [if_pos rfl]; exact ⟨fun e => absurd e (by decide), fun e => absurd e (by decide)⟩
  | false => rw [if_neg (by decide)]; exact ⟨fun _ => rfl, fun _ => rfl⟩
theorem cf_btN {P : Nat} (h : P < 2 ^ 32) (i : Nat) : bt (nI P) i = P.testBit i := by
  unfold bt
  rw [BitVec.getLsbD, pk_tn h]
theorem cf_1N : ∀ N, N < 7 → (1 : Int32) <<< (nI N &&& 31) = nI (2 ^ N) := by decide +kernel
theorem cf_mk0 (x c : Int32) : (x &&& (c ^^^ (-1))) = 0 ↔ ∀ i, i < 32 → bt x i = true → bt c i = true := by
  constructor
  · intro h i hi hx
    have h1 : bt (x &&& (c ^^^ (-1))) i = false := by rw [h, b_0]
    rw [b_and, b_xor, b_m1 i hi, hx] at h1
    cases e : bt c i with
    | true => rfl
    | false => rw [e] at h1; exact absurd h1 (by decide)
  · intro h
    refine b_ext (fun i hi => ?_)
    rw [b_and, b_xor, b_m1 i hi, b_0]
    cases e : bt x i with
    | false => rfl
    | true => rw [h i hi e]; rfl
theorem cf_mk1 (x c : Int32) : (x &&& c) = x ↔ ∀ i, i < 32 → bt x i = true → bt c i = true := by
  constructor
  · intro h i hi hx
    have h1 : bt (x &&& c) i = true := by rw [h, hx]
    rw [b_and, Bool.and_eq_true] at h1
    exact h1.2
  · intro h
    refine b_ext (fun i hi => ?_)
    rw [b_and]
    cases e : bt x i with
    | false => rfl
    | true => rw [h i hi e]; rfl
theorem cf_or0 (x : Int32) : x ||| 0 = x := by
  refine b_ext (fun i _ => ?_)
  rw [b_or, b_0, Bool.or_false]
theorem cf_orI (x : Int32) {s : Nat} (hs : s < 32) (h : bt x s = true) : x ||| cf_bit s = x := by
  refine b_ext (fun i _ => ?_)
  rw [cf_bto hs]
  by_cases e : i = s
  · subst e; rw [h]; rfl
  · rw [decide_eq_false e, Bool.or_false]
theorem cf_i2 (s : Nat) : (2 : Int32) * nI s = nI (2 * s) := by show nI 2 * nI s = _; rw [pk_mul]
theorem cf_i21 (s : Nat) : (2 : Int32) * nI s + 1 = nI (2 * s + 1) := by rw [cf_i2, nI_1]
theorem cf_i2a (s a : Nat) : (2 : Int32) * nI s + nI a = nI (2 * s + a) := by rw [cf_i2, nI_add]
theorem cf_i3 (s k : Nat) : (3 : Int32) * nI s + nI k = nI (3 * s + k) := by show nI 3 * nI s + nI k = _; rw [pk_mul, nI_add]
theorem cf_i7 (s k : Nat) : (7 : Int32) * nI s + nI k = nI (7 * s + k) := by show nI 7 * nI s + nI k = _; rw [pk_mul, nI_add]
theorem cf_i6 (s a k : Nat) : ((6 : Int32) * nI s + 3 * nI a) + nI k = nI (3 * (2 * s + a) + k) := by
  show (nI 6 * nI s + nI 3 * nI a) + nI k = _
  rw [pk_mul, pk_mul, nI_add, nI_add]
  exact congrArg nI (by omega)
theorem cf_c {n : Nat} (h : n < 1000) : (nI n).toNatClampNeg = n := nI_clamp (by omega)
theorem cf_v {n K : Nat} (h : n < K) (hK : K < 1000 := by decide) : vp_in (nI n) K := vp_in_nI h (by omega)
theorem cf_m1 {n : Nat} (h : n < 1000) : ¬ nI n = -1 := by
  intro e
  have h1 : (nI n).toInt = (-1 : Int32).toInt := by rw [e]
  rw [nI_toInt (by omega)] at h1
  have h2 : (-1 : Int32).toInt = -1 := by decide
  omega
/-! the set of the states with two actions -/
def cf_ch (mm : Nat → Nat) : Nat → Int32
  | 0 => 0
  | s + 1 => if 0 < mm (2 * s + 1) then cf_ch mm s ||| cf_bit s else cf_ch mm s
theorem cf_ch_bt (mm : Nat → Nat) (i : Nat) : ∀ n, n ≤ 32 → (bt (cf_ch mm n) i = true ↔ i < n ∧ 0 < mm (2 * i + 1)) := by
  intro n
  induction n with
  | zero => intro _; show bt 0 i = true ↔ _; rw [b_0]; exact ⟨fun h => absurd h (by decide), fun h => absurd h.1 (by omega)⟩
  | succ n ih =>
    intro hn
    have ih' := ih (by omega)
    unfold cf_ch
    by_cases h : 0 < mm (2 * n + 1)
    · rw [if_pos h, cf_bto (by omega), Bool.or_eq_true, ih', decide_eq_true_eq]
      constructor
      · rintro (h1 | h1)
        · exact ⟨by omega, h1.2⟩
        · subst h1; exact ⟨by omega, h⟩
      · intro h1
        by_cases e : i = n
        · exact Or.inr e
        · exact Or.inl ⟨by omega, h1.2⟩
    · rw [if_neg h, ih']
      constructor
      · intro h1; exact ⟨by omega, h1.2⟩
      · intro h1
        by_cases e : i = n
        · subst e; exact absurd h1.2 h
        · exact ⟨by omega, h1.2⟩
theorem cf_fit_ch {N : Nat} {mm : Nat → Nat} {P : Nat} (hN : N ≤ 6) (hP : P < 2 ^ N) : cf_fit N mm P ↔ ∀ i, i < 32 → bt (nI P) i = true → bt (cf_ch mm N) i = true := by
  have h64 : (2 : Nat) ^ N ≤ 2 ^ 6 := Nat.pow_le_pow_right (by decide) hN
  have hP' : P < 2 ^ 32 := by omega
  constructor
  · intro h i hi hb
    rw [cf_btN hP'] at hb
    refine (cf_ch_bt mm i N (by omega)).mpr ⟨?_, h.2 i hb⟩
    refine Classical.byContradiction (fun hn => ?_)
    rw [Nat.testBit_lt_two_pow (Nat.lt_of_lt_of_le hP (Nat.pow_le_pow_right (by decide) (by omega)))] at hb
    exact absurd hb (by decide)
  · intro h
    refine ⟨hP, fun s hs => ?_⟩
    have hs' : s < 32 := by
      refine Classical.byContradiction (fun hn => ?_)
      rw [Nat.testBit_lt_two_pow (Nat.lt_of_lt_of_le hP' (Nat.pow_le_pow_right (by decide) (by omega)))] at hs
      exact absurd hs (by decide)
    exact ((cf_ch_bt mm s N (by omega)).mp (h s hs' (by rw [cf_btN hP']; exact hs))).2
end
section
/-! X: chosen, hopeful -/
def cf_aq (mm : Nat → Nat) (s : Nat) : Nat := if mm (2 * s) = 0 then 0 else if mm (2 * s + 1) = 0 then 1 else 2
def cf_XW (mm nx sh : Nat → Nat) (a_ac a_wc a_nx a_sh : Nat → Int32) : Prop :=
  (∀ j, a_nx j = nI (nx j)) ∧ (∀ j, a_sh j = nI (sh j)) ∧ (∀ s, s < 6 → a_ac s = nI (cf_aq mm s)) ∧ (∀ j, 0 < mm j → a_wc j = nI (mm j))
def cf_xc (g : Int32) (mm : Nat → Nat) (P s : Nat) : Int32 := if mm (2 * s) = 0 ∨ bt g s = true then -1 else nI (cf_ca mm P s)
theorem cf_ca_lt (mm : Nat → Nat) (P s : Nat) : cf_ca mm P s ≤ 2 * s + 1 := by
  unfold cf_ca
  by_cases h : P.testBit s = true ∧ 0 < mm (2 * s + 1)
  · rw [if_pos h]; omega
  · rw [if_neg h]; omega
section
variable {N : Nat} {g : Int32} {mm nx sh : Nat → Nat} {P : Nat}
variable {f_c : Int32} {a_ac : Nat → Int32} {a_wc : Nat → Int32} {a_nx : Nat → Int32} {a_sh : Nat → Int32} {a_tb : Nat → Int64} {a_ro : Nat → Int32} {a_to : Nat → Int64} {a_bo : Nat → Int64} {a_bt : Nat → Int64} {a_bb : Nat → Int64} {a_wt : Nat → Int64} {a_wb : Nat → Int64}
theorem cf_b_0 (W : cf_Wd N g mm nx sh) {s : Nat} (h : mm (2 * s) = 0) : cf_b mm P s = 0 := by
  have h2 := W.2.2.2.2.2.2.2 s h
  unfold cf_b cf_ca
  rw [if_neg (fun h3 => by omega)]; exact h
theorem cf_b_pos {s : Nat} (h : ¬ mm (2 * s) = 0) : 0 < cf_b mm P s := by
  unfold cf_b cf_ca
  by_cases h3 : P.testBit s = true ∧ 0 < mm (2 * s + 1)
  · rw [if_pos h3]; exact h3.2
  · rw [if_neg h3]; omega
theorem cf_X_chosen (W : cf_Wd N g mm nx sh) (V : cf_XW mm nx sh a_ac a_wc a_nx a_sh) {post : Int32 → Prop} {s : Nat} (hs : s < N) (hP : P < 64) (h : post (cf_xc g mm P s)) :
    wpX_chosen post ((nI N), g, f_c, a_ac, a_wc, a_nx, a_sh, a_tb, a_ro, a_to, a_bo, a_bt, a_bb, a_wt, a_wb) (nI s) (nI P) := by
  have hN := W.2.1
  have e1 : a_ac (nI s).toNatClampNeg = nI (cf_aq mm s) := by rw [cf_c (by omega)]; exact V.2.2.1 s (by omega)
  refine And.intro (cf_v (by omega)) ?_
  by_cases h0 : mm (2 * s) = 0
  · have hx : cf_xc g mm P s = -1 := if_pos (Or.inl h0)
    rw [hx] at h
    refine br_t ?_ h
    rw [e1]; unfold cf_aq; rw [if_pos h0]; rfl
  · refine br_f ?_ ?_
    · rw [e1]; unfold cf_aq; rw [if_neg h0]
      by_cases h1 : mm (2 * s + 1) = 0
      · rw [if_pos h1]; decide
      · rw [if_neg h1]; decide
    · by_cases hg : bt g s = true
      · have hx : cf_xc g mm P s = -1 := if_pos (Or.inr hg)
        rw [hx] at h
        exact br_t ((cf_sr1 (by omega) g).mpr hg) h
      · have hx : cf_xc g mm P s = nI (cf_ca mm P s) := if_neg (fun e => e.elim h0 hg)
        rw [hx] at h
        refine br_f (fun e => hg ((cf_sr1 (by omega) g).mp e)) (And.intro (cf_v (by omega)) ?_)
        by_cases h1 : mm (2 * s + 1) = 0
        · have hc : cf_ca mm P s = 2 * s := if_neg (fun e => by omega)
          rw [hc] at h
          refine br_f ?_ ?_
          · rw [e1]; unfold cf_aq; rw [if_neg h0, if_pos h1]; decide
          · rw [cf_i2]; exact h
        · refine br_t ?_ ?_
          · rw [e1]; unfold cf_aq; rw [if_neg h0, if_neg h1]; rfl
          · by_cases hp : P.testBit s = true
            · have hc : cf_ca mm P s = 2 * s + 1 := if_pos ⟨hp, by omega⟩
              rw [hc] at h
              refine br_t ((cf_sr1 (by omega) (nI P)).mpr (by rw [cf_btN (by omega)]; exact hp)) ?_
              rw [cf_i21]; exact h
            · have hc : cf_ca mm P s = 2 * s := if_neg (fun e => hp e.1)
              rw [hc] at h
              refine br_f (fun e => hp (by rw [← cf_btN (P := P) (by omega)]; exact (cf_sr1 (by omega) (nI P)).mp e)) ?_
              rw [cf_i2]; exact h
theorem cf_X_hop39 (W : cf_Wd N g mm nx sh) (V : cf_XW mm nx sh a_ac a_wc a_nx a_sh) {post : Int32 → Prop} {J7 J18 : Int32 → Int32 → Prop} {x1 x3 : Int32} {s : Nat} (hs : s < N) (h0 : 0 < cf_b mm P s)
    {x : Int32} (K : J18 (cf_st (cf_b mm P) (cf_t mm nx P) x s) (nI (s + 1))) :
    ∀ d k n, k + d = cf_b mm P s → d < n → wX_hopeful_39 post J7 J18 x1 x3 (nI s) (nI (cf_ca mm P s)) (nI N) g f_c a_ac a_wc a_nx a_sh a_tb a_ro a_to a_bo a_bt a_bb a_wt a_wb n (if cf_an (fun j => bt x (cf_t mm nx P s j)) k = true then x ||| cf_bit s else x) (nI k) := by
  have hN := W.2.1
  have hc := cf_ca_lt mm P s
  have hw : a_wc (nI (cf_ca mm P s)).toNatClampNeg = nI (cf_b mm P s) := by rw [cf_c (by omega)]; exact V.2.2.2 _ h0
  have h3 : cf_b mm P s ≤ 3 := W.2.2.2.1 _
  intro d
  induction d with
  | zero =>
    intro k n hk hn
    cases n with
    | zero => omega
    | succ n =>
      refine br_f (cf_m1 (by omega)) (And.intro (cf_v (by omega)) (br_t ?_ (nm_r (nI_1 s) ?_)))
      · rw [hw]; exact nI_le (by omega) (by omega)
      · have e : k = cf_b mm P s := by omega
        subst e; exact K
  | succ d ih =>
    intro k n hk hn
    cases n with
    | zero => omega
    | succ n =>
      have ht : cf_t mm nx P s k < N := W.2.2.2.2.1 _
      have e : a_nx ((3 * nI (cf_ca mm P s)) + nI k).toNatClampNeg = nI (cf_t mm nx P s k) := by
        rw [cf_i3, cf_c (by omega)]; exact V.1 _
      refine br_f (cf_m1 (by omega)) (And.intro (cf_v (by omega)) (br_f ?_ (And.intro ?_ ?_)))
      · rw [hw]; exact nI_ge (by omega) (by omega)
      · rw [cf_i3]; exact cf_v (by omega)
      · have ih' := ih (k + 1) n (by omega) (by omega)
        have ha : cf_an (fun j => bt x (cf_t mm nx P s j)) (k + 1) = (cf_an (fun j => bt x (cf_t mm nx P s j)) k || bt x (cf_t mm nx P s k)) := rfl
        rw [ha] at ih'
        rw [e]
        by_cases hk1 : cf_an (fun j => bt x (cf_t mm nx P s j)) k = true
        · rw [hk1, Bool.true_or, if_pos rfl] at ih'
          rw [if_pos hk1]
          refine br_c (fun _ => nm_r (e' := x ||| cf_bit s) ?_ (nm_r (nI_1 k) ih')) (fun _ => nm_r (nI_1 k) ih')
          exact cf_orI _ (by omega) (by rw [cf_bto (by omega), decide_eq_true rfl, Bool.or_true])
        · have hk2 : cf_an (fun j => bt x (cf_t mm nx P s j)) k = false := by
            cases h : cf_an (fun j => bt x (cf_t mm nx P s j)) k with
            | false => rfl
            | true => exact absurd h hk1
          rw [hk2, Bool.false_or] at ih'
          rw [if_neg hk1]
          by_cases hb : bt x (cf_t mm nx P s k) = true
          · rw [if_pos hb] at ih'
            exact br_t ((cf_sr1 (by omega) x).mpr hb) (nm_r (e' := x ||| cf_bit s) rfl (nm_r (nI_1 k) ih'))
          · rw [if_neg hb] at ih'
            exact br_f (fun e => hb ((cf_sr1 (by omega) x).mp e)) (nm_r (nI_1 k) ih')
theorem cf_X_hop18 (W : cf_Wd N g mm nx sh) (V : cf_XW mm nx sh a_ac a_wc a_nx a_sh) (hP : P < 64) {post : Int32 → Prop} {J7 : Int32 → Int32 → Prop} {r : Nat}
    {x : Int32} (hx : ∀ i, bt g i = true → bt x i = true) (K : J7 (cf_rd (cf_b mm P) (cf_t mm nx P) x N) (nI (r + 1))) :
    ∀ d s n, s + d = N → d < n → wX_hopeful_18 post J7 (nI P) (nI r) (nI N) g f_c a_ac a_wc a_nx a_sh a_tb a_ro a_to a_bo a_bt a_bb a_wt a_wb n (cf_rd (cf_b mm P) (cf_t mm nx P) x s) (nI s) := by
  have hN := W.2.1
  intro d
  induction d with
  | zero =>
    intro s n hs hn
    cases n with
    | zero => omega
    | succ n =>
      refine br_t (nI_le (by omega) (by omega)) (nm_r (nI_1 r) ?_)
      have e : s = N := by omega
      subst e; exact K
  | succ d ih =>
    intro s n hs hn
    cases n with
    | zero => omega
    | succ n =>
      have ih' := ih (s + 1) n (by omega) (by omega)
      refine br_f (nI_ge (by omega) (by omega)) (cf_X_chosen W V (by omega) hP ?_)
      by_cases hc : mm (2 * s) = 0 ∨ bt g s = true
      · have e : cf_rd (cf_b mm P) (cf_t mm nx P) x (s + 1) = cf_rd (cf_b mm P) (cf_t mm nx P) x s := by
          show cf_st (cf_b mm P) (cf_t mm nx P) (cf_rd (cf_b mm P) (cf_t mm nx P) x s) s = _
          unfold cf_st
          rcases hc with h | h
          · rw [cf_b_0 W h]; rfl
          · rw [cf_orI _ (by omega) (cf_rd_mono (m := 0) (by omega) (by omega) (hx s h))]
            by_cases h2 : cf_an (fun k => bt (cf_rd (cf_b mm P) (cf_t mm nx P) x s) (cf_t mm nx P s k)) (cf_b mm P s) = true
            · rw [if_pos h2]
            · rw [if_neg h2]
        have hx : cf_xc g mm P s = -1 := if_pos hc
        rw [hx]
        rw [e] at ih'
        exact ⟨1, br_t rfl (nm_r (nI_1 s) ih')⟩
      · have hx : cf_xc g mm P s = nI (cf_ca mm P s) := if_neg hc
        rw [hx]
        exact ⟨cf_b mm P s + 1, cf_X_hop39 (J18 := wX_hopeful_18 post J7 (nI P) (nI r) (nI N) g f_c a_ac a_wc a_nx a_sh a_tb a_ro a_to a_bo a_bt a_bb a_wt a_wb n) W V (by omega) (cf_b_pos (fun h => hc (Or.inl h))) ih' (cf_b mm P s) 0 _ (by omega) (by omega)⟩
theorem cf_X_hop7 (W : cf_Wd N g mm nx sh) (V : cf_XW mm nx sh a_ac a_wc a_nx a_sh) (hP : P < 64) {post : Int32 → Prop} (K : post (cf_hp N g mm nx P)) :
    ∀ d r n, r + d = N → d < n → wX_hopeful_7 post (nI P) (nI N) g f_c a_ac a_wc a_nx a_sh a_tb a_ro a_to a_bo a_bt a_bb a_wt a_wb n (cf_rr (cf_b mm P) (cf_t mm nx P) N g r) (nI r) := by
  have hN := W.2.1
  intro d
  induction d with
  | zero =>
    intro r n hr hn
    cases n with
    | zero => omega
    | succ n =>
      refine br_t (nI_le (by omega) (by omega)) ?_
      have e : r = N := by omega
      rw [e]; exact K
  | succ d ih =>
    intro r n hr hn
    cases n with
    | zero => omega
    | succ n =>
      refine br_f (nI_ge (by omega) (by omega)) ⟨N + 1, ?_⟩
      exact cf_X_hop18 (J7 := wX_hopeful_7 post (nI P) (nI N) g f_c a_ac a_wc a_nx a_sh a_tb a_ro a_to a_bo a_bt a_bb a_wt a_wb n) W V hP (fun i hi => cf_rr_g (by omega) hi r) (ih (r + 1) n (by omega) (by omega)) N 0 _ (by omega) (by omega)
theorem cf_X_hopeful (W : cf_Wd N g mm nx sh) (V : cf_XW mm nx sh a_ac a_wc a_nx a_sh) (hP : P < 64) {post : Int32 → Prop} (K : post (cf_hp N g mm nx P)) :
    wpX_hopeful post ((nI N), g, f_c, a_ac, a_wc, a_nx, a_sh, a_tb, a_ro, a_to, a_bo, a_bt, a_bb, a_wt, a_wb) (nI P) :=
  ⟨N + 1, cf_X_hop7 W V hP K N 0 _ (by omega) (by omega)⟩
end
end
section
/-! X: solve's rows, the empty table, the equations -/
def cf_RO (M : Nat → Bool) (n : Nat) (a : Nat → Int32) : Prop := ∀ x, x < n → a x = if M x = true then nI (cf_rk M x) else -1
theorem cf_RO_upd {M : Nat → Bool} {s : Nat} {a : Nat → Int32} {v : Int32} (hs : s < 1000) (h : cf_RO M s a) (hv : v = if M s = true then nI (cf_rk M s) else -1) : cf_RO M (s + 1) (upd a (nI s).toNatClampNeg v) := by
  intro x hx
  rw [cf_c hs]
  by_cases e : x = s
  · subst e; rw [pk_us]; exact hv
  · rw [pk_un e]; exact h x (by omega)
theorem cf_l64 {v : Nat} (h : v < 1000) : (nI v).toInt64 = Int64.ofInt (v : Int) := by
  rw [nI_l (by omega)]; exact Int64.ofInt_eq_ofNat.symm
theorem cf_row_add {a : Nat → Int64} {r z e : Nat} {f : Nat → Int} {δ : Int} (h : ∀ c, c ≤ z → a (7 * r + c) = Int64.ofInt (f c)) (he : e ≤ z) :
    ∀ c, c ≤ z → vp_updL a (7 * r + e) (a (7 * r + e) + Int64.ofInt δ) (7 * r + c) = Int64.ofInt (f c + if c = e then δ else 0) := by
  intro c hc
  by_cases e1 : c = e
  · subst e1; rw [pk_uLs, h c hc, if_pos rfl, Int64.ofInt_add]
  · rw [pk_uLn (by omega), if_neg e1, h c hc, Int.add_zero]
theorem cf_row_sub {a : Nat → Int64} {r z e : Nat} {f : Nat → Int} {δ : Int} (h : ∀ c, c ≤ z → a (7 * r + c) = Int64.ofInt (f c)) (he : e ≤ z) :
    ∀ c, c ≤ z → vp_updL a (7 * r + e) (a (7 * r + e) - Int64.ofInt δ) (7 * r + c) = Int64.ofInt (f c + if c = e then -δ else 0) := by
  intro c hc
  by_cases e1 : c = e
  · subst e1; rw [pk_uLs, h c hc, if_pos rfl, Int64.ofInt_add, Int64.ofInt_neg, Int64.sub_eq_add_neg]
  · rw [pk_uLn (by omega), if_neg e1, h c hc, Int.add_zero]
def cf_pT (b : Nat → Nat) (t : Nat → Nat → Nat) (w : Nat → Nat → Int) (M G : Nat → Bool) (z k s c : Nat) : Int := (if cf_rk M s = c then cf_S k (w s) else 0) + cf_S k (fun a => w s a * cf_hc M G z c (t s a))
section
variable {N : Nat} {g : Int32} {mm nx sh : Nat → Nat} {P : Nat} {M : Nat → Bool}
variable {f_c : Int32} {a_ac : Nat → Int32} {a_wc : Nat → Int32} {a_nx : Nat → Int32} {a_sh : Nat → Int32} {a_tb : Nat → Int64} {a_ro : Nat → Int32} {a_to : Nat → Int64} {a_bo : Nat → Int64} {a_bt : Nat → Int64} {a_bb : Nat → Int64} {a_wt : Nat → Int64} {a_wb : Nat → Int64}
theorem cf_X_s11 (hN : N ≤ 6) {post : SX → Prop} {x1 x2 : Int32} (hM : ∀ s, s < N → (M s = true ↔ bt x2 s = true ∧ bt g s = false))
    (K : ∀ a_ro' : Nat → Int32, cf_RO M N a_ro' → ∃ n88, wX_solve_88 post x1 (nI (cf_rk M N)) (nI N) g f_c n88 0 a_ac a_wc a_nx a_sh a_tb a_ro' a_to a_bo a_bt a_bb a_wt a_wb) :
    ∀ (d s n : Nat) (a_ro : Nat → Int32), s + d = N → d < n → cf_RO M s a_ro → wX_solve_11 post x1 x2 (nI N) g f_c n (nI (cf_rk M s)) (nI s) a_ac a_wc a_nx a_sh a_tb a_ro a_to a_bo a_bt a_bb a_wt a_wb := by
  intro d
  induction d with
  | zero =>
    intro s n a_ro hs hn h
    cases n with
    | zero => omega
    | succ n =>
      have e : s = N := by omega
      subst e
      exact br_t (nI_le (by omega) (by omega)) (K a_ro h)
  | succ d ih =>
    intro s n a_ro hs hn h
    cases n with
    | zero => omega
    | succ n =>
      have no : ¬ M s = true → wX_solve_46 post (wX_solve_11 post x1 x2 (nI N) g f_c n) x1 x2 (nI (cf_rk M s)) (nI s) (nI N) g f_c a_ac a_wc a_nx a_sh a_tb a_ro a_to a_bo a_bt a_bb a_wt a_wb := fun hm => by
        refine br_t rfl (And.intro (cf_v (by omega)) (nm_e (br_t rfl (nm_r (e' := nI (cf_rk M (s + 1))) ?_ (nm_r (nI_1 s) ?_)))))
        · rw [cf_rk_f hm]; exact Int32.add_zero _
        · exact ih (s + 1) n _ (by omega) (by omega) (cf_RO_upd (by omega) h (if_neg hm).symm)
      refine br_f (nI_ge (by omega) (by omega)) ?_
      by_cases h1 : bt x2 s = true
      · refine br_t ((cf_sr1 (by omega) x2).mpr h1) ?_
        by_cases h2 : bt g s = false
        · refine br_t ((cf_sr0 (by omega) g).mpr h2) ?_
          have hm := (hM s (by omega)).mpr ⟨h1, h2⟩
          refine br_f (by decide) (And.intro (cf_v (by omega)) (nm_e (br_f (by decide) (nm_r (e' := nI (cf_rk M (s + 1))) ?_ (nm_r (nI_1 s) ?_)))))
          · rw [cf_rk_t hm]; exact nI_1 _
          · exact ih (s + 1) n _ (by omega) (by omega) (cf_RO_upd (by omega) h (if_pos hm).symm)
        · exact br_f (fun e => h2 ((cf_sr0 (by omega) g).mp e)) (no (fun hm => h2 ((hM s (by omega)).mp hm).2))
      · exact br_f (fun e => h1 ((cf_sr1 (by omega) x2).mp e)) (no (fun hm => h1 ((hM s (by omega)).mp hm).1))
theorem cf_X_s88 {post : SX → Prop} {x1 x3 : Int32} (K : ∀ a_tb' : Nat → Int64, (∀ j, j < 42 → a_tb' j = 0) → ∃ n112, wX_solve_112 post x1 x3 n112 0 (nI N) g f_c a_ac a_wc a_nx a_sh a_tb' a_ro a_to a_bo a_bt a_bb a_wt a_wb) :
    ∀ (d k n : Nat) (a_tb : Nat → Int64), k + d = 42 → d < n → (∀ j, j < k → a_tb j = 0) → wX_solve_88 post x1 x3 (nI N) g f_c n (nI k) a_ac a_wc a_nx a_sh a_tb a_ro a_to a_bo a_bt a_bb a_wt a_wb := by
  intro d
  induction d with
  | zero =>
    intro k n a_tb hk hn h
    cases n with
    | zero => omega
    | succ n => exact br_t (nI_le (a := 42) (b := k) (by omega) (by omega)) (K a_tb (fun j hj => h j (by omega)))
  | succ d ih =>
    intro k n a_tb hk hn h
    cases n with
    | zero => omega
    | succ n =>
      refine br_f (nI_ge (a := k) (b := 42) (by omega) (by omega)) (And.intro (cf_v (by omega)) (nm_e (nm_r (nI_1 k) (ih (k + 1) n _ (by omega) (by omega) (fun j hj => ?_)))))
      rw [cf_c (by omega)]
      by_cases e : j = k
      · subst e; exact pk_uLs
      · rw [pk_uLn e]; exact h j (by omega)
theorem cf_X_fill11 (W : cf_Wd N g mm nx sh) (V : cf_XW mm nx sh a_ac a_wc a_nx a_sh) (hRO : cf_RO M N a_ro) (hMG : ∀ x, M x = true → bt g x = false) {s : Nat} (hs : s < N) (hm : M s = true) (h0 : 0 < cf_b mm P s) {post : SX → Prop} {tb0 : Nat → Int64}
    (K : ∀ a_tb' : Nat → Int64, (∀ c, c ≤ cf_rk M N → a_tb' (7 * cf_rk M s + c) = Int64.ofInt (cf_pT (cf_b mm P) (cf_t mm nx P) (cf_w mm sh P) M (bt g) (cf_rk M N) (cf_b mm P s) s c)) → (∀ j, (∀ c, c ≤ 6 → j ≠ 7 * cf_rk M s + c) → a_tb' j = tb0 j) → post ((nI N), g, f_c, a_ac, a_wc, a_nx, a_sh, a_tb', a_ro, a_to, a_bo, a_bt, a_bb, a_wt, a_wb)) :
    ∀ (d k n : Nat) (a_tb : Nat → Int64), k + d = cf_b mm P s → d < n → (∀ c, c ≤ cf_rk M N → a_tb (7 * cf_rk M s + c) = Int64.ofInt (cf_pT (cf_b mm P) (cf_t mm nx P) (cf_w mm sh P) M (bt g) (cf_rk M N) k s c)) → (∀ j, (∀ c, c ≤ 6 → j ≠ 7 * cf_rk M s + c) → a_tb j = tb0 j) →
      wX_fillRow_11 post (nI (cf_ca mm P s)) (nI (cf_rk M N)) (nI (cf_rk M s)) (nI N) g f_c n (nI k) a_ac a_wc a_nx a_sh a_tb a_ro a_to a_bo a_bt a_bb a_wt a_wb := by
  have hN := W.2.1
  have hc := cf_ca_lt mm P s
  have hw : a_wc (nI (cf_ca mm P s)).toNatClampNeg = nI (cf_b mm P s) := by rw [cf_c (by omega)]; exact V.2.2.2 _ h0
  have h3 : cf_b mm P s ≤ 3 := W.2.2.2.1 _
  have hrz := cf_rk_lt hm hs
  have hz := cf_rk_le (M := M) N
  intro d
  induction d with
  | zero =>
    intro k n a_tb hk hn h1 h2
    cases n with
    | zero => omega
    | succ n =>
      have e : k = cf_b mm P s := by omega
      subst e
      refine And.intro (cf_v (by omega)) (br_t ?_ (K a_tb h1 h2))
      rw [hw]; exact nI_le (by omega) (by omega)
  | succ d ih =>
    intro k n a_tb hk hn h1 h2
    cases n with
    | zero => omega
    | succ n =>
      have hy : cf_t mm nx P s k < N := W.2.2.2.2.1 _
      have hv : sh (3 * cf_ca mm P s + k) ≤ 9 := W.2.2.2.2.2.1 _
      have e1 : a_nx ((3 * nI (cf_ca mm P s)) + nI k).toNatClampNeg = nI (cf_t mm nx P s k) := by
        rw [cf_i3, cf_c (by omega)]; exact V.1 _
      have e2 : a_sh ((3 * nI (cf_ca mm P s)) + nI k).toNatClampNeg = nI (sh (3 * cf_ca mm P s + k)) := by
        rw [cf_i3, cf_c (by omega)]; exact V.2.1 _
      have i1 : ((7 * nI (cf_rk M s)) + nI (cf_rk M s)).toNatClampNeg = 7 * cf_rk M s + cf_rk M s := by rw [cf_i7, cf_c (by omega)]
      have iz : ((7 * nI (cf_rk M s)) + nI (cf_rk M N)).toNatClampNeg = 7 * cf_rk M s + cf_rk M N := by rw [cf_i7, cf_c (by omega)]
      have v36 : vp_in ((3 * nI (cf_ca mm P s)) + nI k) 36 := by rw [cf_i3]; exact cf_v (by omega)
      have v42 : vp_in ((7 * nI (cf_rk M s)) + nI (cf_rk M s)) 42 := by rw [cf_i7]; exact cf_v (by omega)
      have v42z : vp_in ((7 * nI (cf_rk M s)) + nI (cf_rk M N)) 42 := by rw [cf_i7]; exact cf_v (by omega)
      have ero : a_ro (nI (cf_t mm nx P s k)).toNatClampNeg = if M (cf_t mm nx P s k) = true then nI (cf_rk M (cf_t mm nx P s k)) else -1 := by
        rw [cf_c (by omega)]; exact hRO _ hy
      have w0 : (sh (3 * cf_ca mm P s + k) : Int) = cf_w mm sh P s k := rfl
      have t1 := cf_row_add (δ := cf_w mm sh P s k) h1 (e := cf_rk M s) (by omega)
      have p1 : ∀ c, cf_pT (cf_b mm P) (cf_t mm nx P) (cf_w mm sh P) M (bt g) (cf_rk M N) (k + 1) s c = cf_pT (cf_b mm P) (cf_t mm nx P) (cf_w mm sh P) M (bt g) (cf_rk M N) k s c + (if c = cf_rk M s then cf_w mm sh P s k else 0) + cf_w mm sh P s k * cf_hc M (bt g) (cf_rk M N) c (cf_t mm nx P s k) := by
        intro c
        unfold cf_pT
        show (if cf_rk M s = c then cf_S k (cf_w mm sh P s) + cf_w mm sh P s k else 0) + (cf_S k (fun a => cf_w mm sh P s a * cf_hc M (bt g) (cf_rk M N) c (cf_t mm nx P s a)) + cf_w mm sh P s k * cf_hc M (bt g) (cf_rk M N) c (cf_t mm nx P s k)) = _
        by_cases e : c = cf_rk M s
        · rw [if_pos e.symm, if_pos e.symm, if_pos e]; omega
        · rw [if_neg (fun h => e h.symm), if_neg (fun h => e h.symm), if_neg e]; omega
      refine And.intro (cf_v (by omega)) (br_f ?_ (And.intro v36 (nm_r e1 (And.intro v36 (nm_r e2 (And.intro v42 (And.intro v42 (nm_r (e' := vp_updL a_tb (7 * cf_rk M s + cf_rk M s) (a_tb (7 * cf_rk M s + cf_rk M s) + Int64.ofInt (cf_w mm sh P s k))) ?_ (And.intro (cf_v (by omega)) ?_)))))))))
      · rw [hw]; exact nI_ge (by omega) (by omega)
      · rw [i1, cf_l64 (by omega), w0]
      · by_cases hM : M (cf_t mm nx P s k) = true
        · rw [if_pos hM] at ero
          have hry := cf_rk_lt hM hy
          have iy : ((7 * nI (cf_rk M s)) + nI (cf_rk M (cf_t mm nx P s k))).toNatClampNeg = 7 * cf_rk M s + cf_rk M (cf_t mm nx P s k) := by rw [cf_i7, cf_c (by omega)]
          have v42y : vp_in ((7 * nI (cf_rk M s)) + a_ro (nI (cf_t mm nx P s k)).toNatClampNeg) 42 := by rw [ero, cf_i7]; exact cf_v (by omega)
          refine br_f (by rw [ero]; exact cf_m1 (by omega)) (And.intro (cf_v (by omega)) (And.intro v42y (And.intro v42y (nm_r (e' := vp_updL (vp_updL a_tb (7 * cf_rk M s + cf_rk M s) (a_tb (7 * cf_rk M s + cf_rk M s) + Int64.ofInt (cf_w mm sh P s k))) (7 * cf_rk M s + cf_rk M (cf_t mm nx P s k)) ((vp_updL a_tb (7 * cf_rk M s + cf_rk M s) (a_tb (7 * cf_rk M s + cf_rk M s) + Int64.ofInt (cf_w mm sh P s k))) (7 * cf_rk M s + cf_rk M (cf_t mm nx P s k)) - Int64.ofInt (cf_w mm sh P s k))) ?_ (nm_r (nI_1 k) (ih (k + 1) n _ (by omega) (by omega) ?_ ?_))))))
          · rw [ero, iy, cf_l64 (by omega), w0]
          · intro c hc
            rw [cf_row_sub t1 (by omega) c hc, p1 c]
            refine congrArg Int64.ofInt (congrArg (fun q => cf_pT (cf_b mm P) (cf_t mm nx P) (cf_w mm sh P) M (bt g) (cf_rk M N) k s c + (if c = cf_rk M s then cf_w mm sh P s k else 0) + q) ?_)
            unfold cf_hc
            by_cases ec : c = cf_rk M N
            · rw [if_pos ec, hMG _ hM, if_neg (by omega), if_neg (by decide), Int.mul_zero]
            · rw [if_neg ec]
              by_cases ey : c = cf_rk M (cf_t mm nx P s k)
              · rw [if_pos ey, if_pos ⟨hM, ey.symm⟩]; omega
              · rw [if_neg ey, if_neg (fun h => ey h.2.symm), Int.mul_zero]
          · intro j hj
            rw [pk_uLn (hj _ (by omega)), pk_uLn (hj _ (by omega))]
            exact h2 j hj
        · rw [if_neg hM] at ero
          refine br_t ero ?_
          by_cases hg : bt g (cf_t mm nx P s k) = true
          · refine br_t ((cf_sr1 (by omega) g).mpr hg) (And.intro v42z (And.intro v42z (nm_r (e' := vp_updL (vp_updL a_tb (7 * cf_rk M s + cf_rk M s) (a_tb (7 * cf_rk M s + cf_rk M s) + Int64.ofInt (cf_w mm sh P s k))) (7 * cf_rk M s + cf_rk M N) ((vp_updL a_tb (7 * cf_rk M s + cf_rk M s) (a_tb (7 * cf_rk M s + cf_rk M s) + Int64.ofInt (cf_w mm sh P s k))) (7 * cf_rk M s + cf_rk M N) + Int64.ofInt (cf_w mm sh P s k))) ?_ (nm_r (nI_1 k) (ih (k + 1) n _ (by omega) (by omega) ?_ ?_)))))
            · rw [iz, cf_l64 (by omega), w0]
            · intro c hc
              rw [cf_row_add t1 (by omega) c hc, p1 c]
              refine congrArg Int64.ofInt (congrArg (fun q => cf_pT (cf_b mm P) (cf_t mm nx P) (cf_w mm sh P) M (bt g) (cf_rk M N) k s c + (if c = cf_rk M s then cf_w mm sh P s k else 0) + q) ?_)
              unfold cf_hc
              by_cases ec : c = cf_rk M N
              · rw [if_pos ec, if_pos ec, if_pos hg, Int.mul_one]
              · rw [if_neg ec, if_neg ec, if_neg (fun h => hM h.1), Int.mul_zero]
            · intro j hj
              rw [pk_uLn (hj _ (by omega)), pk_uLn (hj _ (by omega))]
              exact h2 j hj
          · refine br_f (fun e => hg ((cf_sr1 (by omega) g).mp e)) (nm_r (nI_1 k) (ih (k + 1) n _ (by omega) (by omega) ?_ ?_))
            · intro c hc
              have e0 : cf_hc M (bt g) (cf_rk M N) c (cf_t mm nx P s k) = 0 := by
                unfold cf_hc
                by_cases ec : c = cf_rk M N
                · rw [if_pos ec, if_neg hg]
                · rw [if_neg ec, if_neg (fun h => hM h.1)]
              rw [t1 c hc, p1 c, e0, Int.mul_zero, Int.add_zero]
            · intro j hj
              rw [pk_uLn (hj _ (by omega))]
              exact h2 j hj
theorem cf_X_s112 (W : cf_Wd N g mm nx sh) (V : cf_XW mm nx sh a_ac a_wc a_nx a_sh) (hP : P < 64) (hRO : cf_RO M N a_ro) (hMG : ∀ x, M x = true → bt g x = false) (hb : ∀ x, M x = true → ¬ mm (2 * x) = 0) {post : SX → Prop}
    (K : ∀ a_tb' : Nat → Int64, (∀ x, x < N → M x = true → ∀ c, c ≤ cf_rk M N → a_tb' (7 * cf_rk M x + c) = Int64.ofInt (cf_T (cf_b mm P) (cf_t mm nx P) (cf_w mm sh P) M (bt g) (cf_rk M N) 0 x c)) → ∃ n158, wX_solve_158 post (nI (cf_rk M N)) n158 1 0 (nI N) g f_c a_ac a_wc a_nx a_sh a_tb' a_ro a_to a_bo a_bt a_bb a_wt a_wb) :
    ∀ (d s n : Nat) (a_tb : Nat → Int64), s + d = N → d < n → (∀ x, x < N → M x = true → ∀ c, c ≤ cf_rk M N → a_tb (7 * cf_rk M x + c) = Int64.ofInt (if x < s then cf_T (cf_b mm P) (cf_t mm nx P) (cf_w mm sh P) M (bt g) (cf_rk M N) 0 x c else 0)) →
      wX_solve_112 post (nI P) (nI (cf_rk M N)) n (nI s) (nI N) g f_c a_ac a_wc a_nx a_sh a_tb a_ro a_to a_bo a_bt a_bb a_wt a_wb := by
  have hN := W.2.1
  have hz := cf_rk_le (M := M) N
  intro d
  induction d with
  | zero =>
    intro s n a_tb hs hn h
    cases n with
    | zero => omega
    | succ n =>
      refine br_t (nI_le (by omega) (by omega)) (K a_tb (fun x hx hm c hc => ?_))
      rw [h x hx hm c hc, if_pos (by omega)]
  | succ d ih =>
    intro s n a_tb hs hn h
    cases n with
    | zero => omega
    | succ n =>
      have ero : a_ro (nI s).toNatClampNeg = if M s = true then nI (cf_rk M s) else -1 := by
        rw [cf_c (by omega)]; exact hRO _ (by omega)
      refine br_f (nI_ge (by omega) (by omega)) (And.intro (cf_v (by omega)) ?_)
      by_cases hm : M s = true
      · rw [if_pos hm] at ero
        have hr := cf_rk_lt hm (show s < N by omega)
        refine br_f (by rw [ero]; exact cf_m1 (by omega)) (cf_X_chosen W V (by omega) hP ?_)
        have hx : cf_xc g mm P s = nI (cf_ca mm P s) := if_neg (fun e => e.elim (hb s hm) (fun e => by rw [hMG s hm] at e; exact absurd e (by decide)))
        rw [hx]
        refine And.intro (cf_v (by omega)) (nm_r ero ⟨cf_b mm P s + 1, ?_⟩)
        refine cf_X_fill11 (tb0 := a_tb) W V hRO hMG (by omega) hm (cf_b_pos (hb s hm)) ?_ (cf_b mm P s) 0 _ a_tb (by omega) (by omega) ?_ (fun j _ => rfl)
        · intro a_tb' h1 h2
          refine nm_r (nI_1 s) (ih (s + 1) n a_tb' (by omega) (by omega) (fun x hx hm' c hc => ?_))
          by_cases e : x = s
          · subst e
            rw [h1 c hc, if_pos (by omega), cf_T_0]; rfl
          · have hne : cf_rk M x ≠ cf_rk M s := fun e2 => e (cf_rk_inj hm' hm e2)
            rw [h2 _ (fun c' hc' => by omega), h x hx hm' c hc]
            by_cases e3 : x < s
            · rw [if_pos e3, if_pos (by omega)]
            · rw [if_neg e3, if_neg (by omega)]
        · intro c hc
          rw [h s (by omega) hm c hc, if_neg (by omega)]
          refine congrArg Int64.ofInt ?_
          unfold cf_pT
          by_cases e : cf_rk M s = c
          · rw [if_pos e]; rfl
          · rw [if_neg e]; rfl
      · rw [if_neg hm] at ero
        refine br_t ero (nm_r (nI_1 s) (ih (s + 1) n a_tb (by omega) (by omega) (fun x hx hm' c hc => ?_)))
        have e : x ≠ s := fun e => hm (e ▸ hm')
        rw [h x hx hm' c hc]
        by_cases e3 : x < s
        · rw [if_pos e3, if_pos (by omega)]
        · rw [if_neg e3, if_neg (by omega)]
end
end
section
/-! X: the elimination -/
theorem cf_ofI {a : Int} (h1 : -1000000000000000000 ≤ a) (h2 : a ≤ 1000000000000000000) : (Int64.ofInt a).toInt = a := Int64.toInt_ofInt_of_le (by omega) (by omega)
theorem cf_ne0 {d : Int} (h : 0 < d) (h2 : d ≤ 1000000000000000000) : ¬ Int64.ofInt d = 0 := by
  intro e
  have h1 : (Int64.ofInt d).toInt = (0 : Int64).toInt := by rw [e]
  rw [cf_ofI (by omega) h2] at h1
  have h3 : (0 : Int64).toInt = 0 := by decide
  omega
theorem cf_divI {p a e q d r : Int} (hd : 0 < d) (hd2 : d ≤ 387420489) (h1 : -774840978 ≤ r) (h2 : r ≤ 774840978) (h : p * a - e * q = d * r) :
    (Int64.ofInt p * Int64.ofInt a - Int64.ofInt e * Int64.ofInt q) / Int64.ofInt d = Int64.ofInt r := by
  rw [← Int64.ofInt_mul, ← Int64.ofInt_mul, ← Int64.ofInt_sub, h]
  have h3 : d * r ≤ 387420489 * 774840978 := Int.le_trans (Int.mul_le_mul_of_nonneg_left h2 (Int.le_of_lt hd)) (Int.mul_le_mul_of_nonneg_right hd2 (by decide))
  have h4 : d * (-774840978) ≤ d * r := Int.mul_le_mul_of_nonneg_left h1 (Int.le_of_lt hd)
  have e1 : Int64.minValue.toInt = -9223372036854775808 := by decide
  have e2 : Int64.maxValue.toInt = 9223372036854775807 := by decide
  rw [← Int64.ofInt_tdiv (by rw [e1]; omega) (by rw [e2]; omega) (by rw [e1]; omega) (by rw [e2]; omega)]
  rw [Int.mul_tdiv_cancel_left _ (by omega)]
section
variable {N : Nat} {g : Int32} {mm nx sh : Nat → Nat} {P : Nat} {M : Nat → Bool}
variable {f_c : Int32} {a_ac : Nat → Int32} {a_wc : Nat → Int32} {a_nx : Nat → Int32} {a_sh : Nat → Int32} {a_tb : Nat → Int64} {a_ro : Nat → Int32} {a_to : Nat → Int64} {a_bo : Nat → Int64} {a_bt : Nat → Int64} {a_bb : Nat → Int64} {a_wt : Nat → Int64} {a_wb : Nat → Int64}
theorem cf_X_red44 {post : SX → Prop} {i k z : Nat} (hi : i < 6) (hk : k < 6) (hz : z ≤ 6) (hik : i ≠ k) {p e d : Int} {F Q R : Nat → Int} (hd : 0 < d) (hd2 : d ≤ 387420489) (hR : ∀ c, c ≤ z → -774840978 ≤ R c ∧ R c ≤ 774840978)
    (eq : ∀ c, c ≤ z → p * F c - e * Q c = d * R c) {tb0 : Nat → Int64} (hQ : ∀ c, c ≤ z → tb0 (7 * k + c) = Int64.ofInt (Q c)) (hF : ∀ c, c ≤ z → tb0 (7 * i + c) = Int64.ofInt (F c))
    (K : ∀ a_tb' : Nat → Int64, (∀ c, c ≤ z → a_tb' (7 * i + c) = Int64.ofInt (R c)) → (∀ j, (∀ c, c ≤ 6 → j ≠ 7 * i + c) → a_tb' j = tb0 j) → post ((nI N), g, f_c, a_ac, a_wc, a_nx, a_sh, a_tb', a_ro, a_to, a_bo, a_bt, a_bb, a_wt, a_wb)) :
    ∀ (m c n : Nat) (a_tb : Nat → Int64), c + m = z + 1 → m < n → (∀ c', c' < c → a_tb (7 * i + c') = Int64.ofInt (R c')) → (∀ j, (∀ c', c' < c → j ≠ 7 * i + c') → a_tb j = tb0 j) →
      wX_reduceRow_44 post (nI i) (nI k) (nI z) (Int64.ofInt p) (Int64.ofInt e) (Int64.ofInt d) (nI N) g f_c n (nI c) a_ac a_wc a_nx a_sh a_tb a_ro a_to a_bo a_bt a_bb a_wt a_wb := by
  intro m
  induction m with
  | zero =>
    intro c n a_tb hc hn h1 h2
    cases n with
    | zero => omega
    | succ n =>
      exact br_t (nI_lt (by omega) (by omega)) (K a_tb (fun c' hc' => h1 c' (by omega)) (fun j hj => h2 j (fun c' hc' => hj c' (by omega))))
  | succ m ih =>
    intro c n a_tb hc hn h1 h2
    cases n with
    | zero => omega
    | succ n =>
      have ii : ((7 * nI i) + nI c).toNatClampNeg = 7 * i + c := by rw [cf_i7, cf_c (by omega)]
      have ik : ((7 * nI k) + nI c).toNatClampNeg = 7 * k + c := by rw [cf_i7, cf_c (by omega)]
      have vi : vp_in ((7 * nI i) + nI c) 42 := by rw [cf_i7]; exact cf_v (by omega)
      have vk : vp_in ((7 * nI k) + nI c) 42 := by rw [cf_i7]; exact cf_v (by omega)
      refine br_f (nI_nlt (by omega) (by omega)) (And.intro vi (And.intro vk (And.intro (cf_ne0 hd (by omega)) (And.intro vi (nm_r (e' := vp_updL a_tb (7 * i + c) (Int64.ofInt (R c))) ?_ (nm_r (nI_1 c) (ih (c + 1) n _ (by omega) (by omega) ?_ ?_)))))))
      · rw [ii, ik, h2 _ (fun c' hc' => by omega), h2 (7 * k + c) (fun c' hc' => by omega), hF c (by omega), hQ c (by omega), cf_divI hd hd2 (hR c (by omega)).1 (hR c (by omega)).2 (eq c (by omega))]
      · intro c' hc'
        by_cases e : c' = c
        · subst e; exact pk_uLs
        · rw [pk_uLn (by omega)]; exact h1 c' (by omega)
      · intro j hj
        rw [pk_uLn (hj c (by omega))]
        exact h2 j (fun c' hc' => hj c' (by omega))
theorem cf_X_red {post : SX → Prop} {i k z : Nat} (hi : i < 6) (hk : k < 6) (hz : z ≤ 6) (hkz : k ≤ z) (hik : i ≠ k) {d : Int} {F Q R : Nat → Int} (hd : 0 < d) (hd2 : d ≤ 387420489) (hR : ∀ c, c ≤ z → -774840978 ≤ R c ∧ R c ≤ 774840978)
    (eq : ∀ c, c ≤ z → Q k * F c - F k * Q c = d * R c) (hQ : ∀ c, c ≤ z → a_tb (7 * k + c) = Int64.ofInt (Q c)) (hF : ∀ c, c ≤ z → a_tb (7 * i + c) = Int64.ofInt (F c))
    (K : ∀ a_tb' : Nat → Int64, (∀ c, c ≤ z → a_tb' (7 * i + c) = Int64.ofInt (R c)) → (∀ j, (∀ c, c ≤ 6 → j ≠ 7 * i + c) → a_tb' j = a_tb j) → post ((nI N), g, f_c, a_ac, a_wc, a_nx, a_sh, a_tb', a_ro, a_to, a_bo, a_bt, a_bb, a_wt, a_wb)) :
    wpX_reduceRow post ((nI N), g, f_c, a_ac, a_wc, a_nx, a_sh, a_tb, a_ro, a_to, a_bo, a_bt, a_bb, a_wt, a_wb) (nI i) (nI k) (nI z) (Int64.ofInt d) := by
  have ii : ((7 * nI i) + nI k).toNatClampNeg = 7 * i + k := by rw [cf_i7, cf_c (by omega)]
  have ik : ((7 * nI k) + nI k).toNatClampNeg = 7 * k + k := by rw [cf_i7, cf_c (by omega)]
  have vi : vp_in ((7 * nI i) + nI k) 42 := by rw [cf_i7]; exact cf_v (by omega)
  have vk : vp_in ((7 * nI k) + nI k) 42 := by rw [cf_i7]; exact cf_v (by omega)
  refine And.intro vk (nm_r (e' := Int64.ofInt (Q k)) (by rw [ik, hQ k hkz]) (And.intro vi (nm_r (e' := Int64.ofInt (F k)) (by rw [ii, hF k hkz]) (br_f (cf_ne0 hd (by omega)) ⟨z + 2, ?_⟩))))
  exact cf_X_red44 hi hk hz hik hd hd2 hR eq hQ hF K (z + 1) 0 _ a_tb (by omega) (by omega) (fun c' hc' => by omega) (fun j _ => rfl)
theorem cf_T_skips {b : Nat → Nat} {t : Nat → Nat → Nat} {w : Nat → Nat → Int} {G : Nat → Bool} {z n : Nat} : ∀ d, cf_rk M (n + d) = cf_rk M n → cf_LM M (n + d) = cf_LM M n ∧ ∀ x c, M x = true → cf_T b t w M G z (n + d) x c = cf_T b t w M G z n x c := by
  intro d
  induction d with
  | zero => intro _; exact ⟨rfl, fun x c _ => rfl⟩
  | succ d ih =>
    intro h
    have h0 : cf_rk M (n + d + 1) = cf_rk M n := h
    have h1 : cf_rk M n ≤ cf_rk M (n + d) := cf_rk_mono (by omega)
    by_cases hm : M (n + d) = true
    · rw [cf_rk_t hm] at h0; omega
    · rw [cf_rk_f hm] at h0
      obtain ⟨h2, h3⟩ := ih h0
      refine ⟨(cf_LM_f hm).trans h2, fun x c hx => ?_⟩
      exact (cf_T_skip hm hx).trans (h3 x c hx)
/-- what the elimination asks of the maths, for the moving states M -/
def cf_El (N : Nat) (b : Nat → Nat) (t : Nat → Nat → Nat) (w : Nat → Nat → Int) (M G : Nat → Bool) : Prop :=
  (∀ x, M x = true → G x = false) ∧ (∀ x, M x = true → ∀ k, k < b x → 0 ≤ w x k) ∧ (∀ x, M x = true → cf_S (b x) (w x) ≤ 27) ∧ (∀ n, n ≤ N → cf_Pos b t w (cf_LM M n))
theorem cf_El_D {b : Nat → Nat} {t : Nat → Nat → Nat} {w : Nat → Nat → Int} {G : Nat → Bool} (hN : N ≤ 6) (h : cf_El N b t w M G) {n : Nat} (hn : n ≤ N) : 0 < cf_D b t w (cf_LM M n) ∧ cf_D b t w (cf_LM M n) ≤ 387420489 := by
  refine ⟨cf_Pos_D (h.2.2.2 n hn), Int.le_trans (cf_bound _ (fun s hs => h.2.1 s ((cf_LM_mem n s).mp hs).2) (fun s hs => h.2.2.1 s ((cf_LM_mem n s).mp hs).2) _ (fun _ => by decide)) ?_⟩
  rw [cf_LM_len]
  have := cf_rk_le (M := M) n
  exact cf_p27 (by omega)
theorem cf_X_s182 {b : Nat → Nat} {t : Nat → Nat → Nat} {w : Nat → Nat → Int} (hN : N ≤ 6) (hE : cf_El N b t w M (bt g)) {post : SX → Prop} {J158 : Int64 → Int32 → Int32 → Int32 → Int32 → (Nat → Int32) → (Nat → Int32) → (Nat → Int32) → (Nat → Int32) → (Nat → Int64) → (Nat → Int32) → (Nat → Int64) → (Nat → Int64) → (Nat → Int64) → (Nat → Int64) → (Nat → Int64) → (Nat → Int64) → Prop}
    {s : Nat} (hs : s < N) (hm : M s = true) {x7 : Int64}
    (K : ∀ a_tb' : Nat → Int64, (∀ x, x < N → M x = true → ∀ c, c ≤ cf_rk M N → a_tb' (7 * cf_rk M x + c) = Int64.ofInt (cf_T b t w M (bt g) (cf_rk M N) (s + 1) x c)) → J158 x7 (nI (cf_rk M s + 1)) (nI N) g f_c a_ac a_wc a_nx a_sh a_tb' a_ro a_to a_bo a_bt a_bb a_wt a_wb) :
    ∀ (m i n : Nat) (a_tb : Nat → Int64), i + m = cf_rk M N → m < n → (∀ x, x < N → M x = true → ∀ c, c ≤ cf_rk M N → a_tb (7 * cf_rk M x + c) = Int64.ofInt (cf_T b t w M (bt g) (cf_rk M N) (if cf_rk M x < i then s + 1 else s) x c)) →
      wX_solve_182 post J158 (nI (cf_rk M N)) (Int64.ofInt (cf_D b t w (cf_LM M s))) (nI (cf_rk M s)) x7 n (nI i) (nI N) g f_c a_ac a_wc a_nx a_sh a_tb a_ro a_to a_bo a_bt a_bb a_wt a_wb := by
  have hz := cf_rk_le (M := M) N
  have hrs := cf_rk_lt hm hs
  intro m
  induction m with
  | zero =>
    intro i n a_tb hi hn h
    cases n with
    | zero => omega
    | succ n =>
      refine br_t (nI_le (by omega) (by omega)) (nm_r (nI_1 _) (K a_tb (fun x hx hx' c hc => ?_)))
      have hrx := cf_rk_lt hx' hx
      rw [h x hx hx' c hc, if_pos (by omega)]
  | succ m ih =>
    intro i n a_tb hi hn h
    cases n with
    | zero => omega
    | succ n =>
      refine br_f (nI_ge (by omega) (by omega)) ?_
      by_cases e : i = cf_rk M s
      · refine br_t (congrArg nI e) (nm_r (nI_1 i) (ih (i + 1) n a_tb (by omega) (by omega) (fun x hx hx' c hc => ?_)))
        rw [h x hx hx' c hc]
        by_cases e2 : x = s
        · subst e2
          rw [if_neg (by omega), if_pos (by omega), cf_T_row hm (hE.1 x hm) hrs]
        · have e3 : cf_rk M x ≠ cf_rk M s := fun e4 => e2 (cf_rk_inj hx' hm e4)
          by_cases e4 : cf_rk M x < i
          · rw [if_pos e4, if_pos (by omega)]
          · rw [if_neg e4, if_neg (by omega)]
      · refine br_f (fun e2 => e ((nI_eq (by omega) (by omega)).mp e2)) ?_
        obtain ⟨x, hx, hx', hxi⟩ := cf_rk_ex (M := M) (n := N) (k := i) (by omega)
        have hxs : x ≠ s := fun e2 => e (by rw [← hxi, e2])
        have hD := cf_El_D hN hE (n := s) (by omega)
        refine cf_X_red (F := cf_T b t w M (bt g) (cf_rk M N) s x) (Q := fun c => cf_T b t w M (bt g) (cf_rk M N) (if cf_rk M s < i then s + 1 else s) s c) (R := cf_T b t w M (bt g) (cf_rk M N) (s + 1) x) (by omega) (by omega) (by omega) (by omega) e hD.1 hD.2 ?_ ?_ (h s hs hm) ?_ ?_
        · intro c hc
          exact cf_T_bd hN (by omega) hx hx' hE.2.1 hE.2.2.1
        · intro c hc
          have e5 : ∀ c, cf_T b t w M (bt g) (cf_rk M N) (if cf_rk M s < i then s + 1 else s) s c = cf_T b t w M (bt g) (cf_rk M N) s s c := by
            intro c
            by_cases e6 : cf_rk M s < i
            · rw [if_pos e6, cf_T_row hm (hE.1 s hm) hrs]
            · rw [if_neg e6]
          show cf_T b t w M (bt g) (cf_rk M N) (if cf_rk M s < i then s + 1 else s) s (cf_rk M s) * cf_T b t w M (bt g) (cf_rk M N) s x c - cf_T b t w M (bt g) (cf_rk M N) s x (cf_rk M s) * cf_T b t w M (bt g) (cf_rk M N) (if cf_rk M s < i then s + 1 else s) s c = _
          rw [e5, e5]
          exact cf_T_step hm (hE.1 s hm) hrs (fun s' _ hs' => hE.2.1 s' hs') (hE.2.2.2 s (by omega)) hx' hxs
        · intro c hc
          have h1 := h x hx hx' c hc
          rw [hxi, if_neg (by omega)] at h1
          exact h1
        · intro a_tb' h1 h2
          refine nm_r (nI_1 i) (ih (i + 1) n a_tb' (by omega) (by omega) (fun y hy hy' c hc => ?_))
          by_cases e2 : y = x
          · subst e2
            rw [hxi, if_pos (by omega)]
            exact h1 c hc
          · have e3 : cf_rk M y ≠ i := fun e4 => e2 (cf_rk_inj hy' hx' (e4.trans hxi.symm))
            rw [h2 _ (fun c' hc' => by omega), h y hy hy' c hc]
            by_cases e4 : cf_rk M y < i
            · rw [if_pos e4, if_pos (by omega)]
            · rw [if_neg e4, if_neg (by omega)]
theorem cf_X_s158 {b : Nat → Nat} {t : Nat → Nat → Nat} {w : Nat → Nat → Int} (hN : N ≤ 6) (hE : cf_El N b t w M (bt g)) {post : SX → Prop}
    (K : ∀ a_tb' : Nat → Int64, (∀ x, x < N → M x = true → ∀ c, c ≤ cf_rk M N → a_tb' (7 * cf_rk M x + c) = Int64.ofInt (cf_T b t w M (bt g) (cf_rk M N) N x c)) → ∃ n225, wX_solve_225 post (nI (cf_rk M N)) (Int64.ofInt (cf_D b t w (cf_LM M N))) n225 0 (nI N) g f_c a_ac a_wc a_nx a_sh a_tb' a_ro a_to a_bo a_bt a_bb a_wt a_wb) :
    ∀ (m s n : Nat) (a_tb : Nat → Int64), s ≤ N → cf_rk M s + m = cf_rk M N → m < n → (∀ x, x < N → M x = true → ∀ c, c ≤ cf_rk M N → a_tb (7 * cf_rk M x + c) = Int64.ofInt (cf_T b t w M (bt g) (cf_rk M N) s x c)) →
      wX_solve_158 post (nI (cf_rk M N)) n (Int64.ofInt (cf_D b t w (cf_LM M s))) (nI (cf_rk M s)) (nI N) g f_c a_ac a_wc a_nx a_sh a_tb a_ro a_to a_bo a_bt a_bb a_wt a_wb := by
  have hz := cf_rk_le (M := M) N
  intro m
  induction m with
  | zero =>
    intro s n a_tb hs hr hn h
    cases n with
    | zero => omega
    | succ n =>
      obtain ⟨h1, h2⟩ := cf_T_skips (M := M) (b := b) (t := t) (w := w) (G := bt g) (z := cf_rk M N) (n := s) (N - s) (by rw [show s + (N - s) = N by omega]; omega)
      rw [show s + (N - s) = N by omega] at h1 h2
      rw [← h1]
      refine br_t (nI_le (by omega) (by omega)) (K a_tb (fun x hx hx' c hc => ?_))
      rw [h x hx hx' c hc, h2 x c hx']
  | succ m ih =>
    intro s0 n a_tb hs hr hn h
    cases n with
    | zero => omega
    | succ n =>
      obtain ⟨s, hsN, hm, hrs⟩ := cf_rk_ex (M := M) (n := N) (k := cf_rk M s0) (by omega)
      have hle : s0 ≤ s := by
        refine Classical.byContradiction (fun hn => ?_)
        have := cf_rk_lt hm (show s < s0 by omega)
        omega
      obtain ⟨h1, h2⟩ := cf_T_skips (M := M) (b := b) (t := t) (w := w) (G := bt g) (z := cf_rk M N) (n := s0) (s - s0) (by rw [show s0 + (s - s0) = s by omega]; omega)
      rw [show s0 + (s - s0) = s by omega] at h1 h2
      rw [← h1, ← hrs]
      have hrz := cf_rk_lt hm hsN
      have h' : ∀ x, x < N → M x = true → ∀ c, c ≤ cf_rk M N → a_tb (7 * cf_rk M x + c) = Int64.ofInt (cf_T b t w M (bt g) (cf_rk M N) s x c) := fun x hx hx' c hc => by
        rw [h x hx hx' c hc, h2 x c hx']
      have ik : ((7 * nI (cf_rk M s)) + nI (cf_rk M s)).toNatClampNeg = 7 * cf_rk M s + cf_rk M s := by rw [cf_i7, cf_c (by omega)]
      refine br_f (nI_ge (by omega) (by omega)) (And.intro (by rw [cf_i7]; exact cf_v (by omega)) (nm_r (e' := Int64.ofInt (cf_D b t w (cf_LM M (s + 1)))) ?_ ⟨cf_rk M N + 1, ?_⟩))
      · rw [ik, h' s hsN hm _ (by omega), cf_T_piv hm hrz]
      · refine cf_X_s182 (J158 := wX_solve_158 post (nI (cf_rk M N)) n) hN hE hsN hm (fun a_tb' h3 => ?_) (cf_rk M N) 0 _ a_tb (by omega) (by omega) (fun x hx hx' c hc => by rw [if_neg (by omega)]; exact h' x hx hx' c hc)
        have h4 := ih (s + 1) n a_tb' (by omega) (by rw [cf_rk_t hm]; omega) (by omega) h3
        rw [cf_rk_t hm] at h4
        exact h4
end
end
section
/-! X: show and solve -/
theorem cf_lN0 {x : Nat} (h : x < 2 ^ 62) : lN x = 0 ↔ x = 0 := pk_lEQ (b := 0) (by omega) (by omega)
theorem cf_lNi (x : Nat) : Int64.ofInt (x : Int) = lN x := Int64.ofInt_eq_ofNat
section
variable {N : Nat} {g : Int32} {mm nx sh : Nat → Nat} {P : Nat} {M : Nat → Bool}
variable {f_c : Int32} {a_ac : Nat → Int32} {a_wc : Nat → Int32} {a_nx : Nat → Int32} {a_sh : Nat → Int32} {a_tb : Nat → Int64} {a_ro : Nat → Int32} {a_to : Nat → Int64} {a_bo : Nat → Int64} {a_bt : Nat → Int64} {a_bb : Nat → Int64} {a_wt : Nat → Int64} {a_wb : Nat → Int64}
theorem cf_X_show10 {post : SX → Prop} {x1 : Int32} {x2 x4 : Int64} {v : Nat} (K : wX_show_45 post x1 x2 x4 (lN v) (nI N) g f_c a_ac a_wc a_nx a_sh a_tb a_ro a_to a_bo a_bt a_bb a_wt a_wb) :
    ∀ (m n k x y : Nat), x < 2 ^ m → m ≤ 40 → y < 2 ^ 62 → k + 2 * m ≤ 100 → 2 * m < n → Nat.gcd x y = v → wX_show_10 post x1 x2 x4 (nI N) g f_c a_ac a_wc a_nx a_sh a_tb a_ro a_to a_bo a_bt a_bb a_wt a_wb n (lN x) (lN y) (nI k) := by
  have z : ∀ (n k y : Nat), k ≤ 100 → 0 < n → Nat.gcd 0 y = v → wX_show_10 post x1 x2 x4 (nI N) g f_c a_ac a_wc a_nx a_sh a_tb a_ro a_to a_bo a_bt a_bb a_wt a_wb n (lN 0) (lN y) (nI k) := by
    intro n k y hk hn hv
    rw [Nat.gcd_zero_left] at hv
    subst hv
    cases n with
    | zero => omega
    | succ n => exact br_c (fun _ => K) (fun _ => br_t rfl K)
  intro m
  induction m with
  | zero =>
    intro n k x y hx _ hy hk hn hv
    have e : x = 0 := by have h : x < 1 := hx
                         omega
    subst e
    exact z n k y (by omega) (by omega) hv
  | succ m ih =>
    intro n k x y hx hm hy hk hn hv
    by_cases e : x = 0
    · subst e; exact z n k y (by omega) (by omega) hv
    · have h40 : (2 : Nat) ^ (m + 1) ≤ 2 ^ 40 := Nat.pow_le_pow_right (by decide) hm
      have hx62 : x < 2 ^ 62 := by omega
      cases n with
      | zero => omega
      | succ n =>
        have hn0 : ¬ lN x = 0 := fun h => e ((cf_lN0 hx62).mp h)
        have h1 : y % x < x := Nat.mod_lt _ (by omega)
        refine br_f (nI_ge (a := k) (b := 100) (by omega) (by omega)) (br_f hn0 (And.intro hn0 (nm_r (pk_lRem (by omega) (by omega) (by omega)) (nm_r (nI_1 k) ?_))))
        rw [Nat.gcd_rec] at hv
        by_cases h2 : y % x < 2 ^ m
        · exact ih n (k + 1) (y % x) x h2 (by omega) hx62 (by omega) (by omega) hv
        · have hp : 0 < 2 ^ m := Nat.pow_pos (by decide)
          have hps : (2 : Nat) ^ (m + 1) = 2 * 2 ^ m := by rw [Nat.pow_succ]; omega
          have e2 : ¬ lN (y % x) = 0 := fun h => by have := (cf_lN0 (by omega)).mp h; omega
          cases n with
          | zero => omega
          | succ n =>
            have h3 : x % (y % x) < 2 ^ m := by
              have h4 : x % (y % x) = x - y % x := by
                rw [Nat.mod_eq_sub_mod (by omega), Nat.mod_eq_of_lt (by omega)]
              omega
            rw [Nat.gcd_rec] at hv
            refine br_f (nI_ge (a := k + 1) (b := 100) (by omega) (by omega)) (br_f e2 (And.intro e2 (nm_r (pk_lRem (by omega) (by omega) (by omega)) (nm_r (nI_1 (k + 1)) ?_))))
            exact ih n (k + 1 + 1) _ _ h3 (by omega) (by omega) (by omega) (by omega) hv
theorem cf_X_show {post : SX → Prop} {s a d : Nat} (hs : s < 6) (ha : a < 2 ^ 30) (hd0 : 0 < d) (hd : d < 2 ^ 30)
    (K : post ((nI N), g, f_c, a_ac, a_wc, a_nx, a_sh, a_tb, a_ro, vp_updL a_to s (lN (a / Nat.gcd a d)), vp_updL a_bo s (lN (d / Nat.gcd a d)), a_bt, a_bb, a_wt, a_wb)) : wpX_show post ((nI N), g, f_c, a_ac, a_wc, a_nx, a_sh, a_tb, a_ro, a_to, a_bo, a_bt, a_bb, a_wt, a_wb) (nI s) (lN a) (lN d) := by
  have g0 : 0 < Nat.gcd a d := Nat.gcd_pos_of_pos_right a hd0
  have g1 : Nat.gcd a d ≤ d := Nat.gcd_le_right a hd0
  have n0 : ¬ lN (Nat.gcd a d) = 0 := fun h => by have := (cf_lN0 (by omega)).mp h; omega
  refine ⟨61, cf_X_show10 (v := Nat.gcd a d) ?_ 30 _ 0 a d ha (by omega) (by omega) (by omega) (by omega) rfl⟩
  refine br_f (fun h => by have := (pk_lLE (b := 0) (by omega) (by omega)).mp h; omega) (And.intro n0 (And.intro (cf_v hs) (nm_r (e' := vp_updL a_to s (lN (a / Nat.gcd a d))) ?_ (And.intro n0 (And.intro (cf_v hs) (nm_r (e' := vp_updL a_bo s (lN (d / Nat.gcd a d))) ?_ K))))))
  · rw [cf_c (by omega), pk_lDiv (by omega) g0 (by omega)]
  · rw [cf_c (by omega), pk_lDiv (by omega) g0 (by omega)]
end
def cf_aN (N : Nat) (g : Int32) (mm nx sh : Nat → Nat) (P x : Nat) : Nat := (cf_AA N g mm nx sh P x).toNat
def cf_dN (N : Nat) (g : Int32) (mm nx sh : Nat → Nat) (P : Nat) : Nat := (cf_DD N g mm nx sh P).toNat
section
variable {N : Nat} {g : Int32} {mm nx sh : Nat → Nat} {P : Nat}
theorem cf_aN_i (W : cf_Wd N g mm nx sh) (x : Nat) : ((cf_aN N g mm nx sh P x : Nat) : Int) = cf_AA N g mm nx sh P x := Int.toNat_of_nonneg (cf_W_A W P x).1
theorem cf_dN_i (W : cf_Wd N g mm nx sh) : ((cf_dN N g mm nx sh P : Nat) : Int) = cf_DD N g mm nx sh P := Int.toNat_of_nonneg (Int.le_of_lt (cf_W_D W P).1)
theorem cf_aN_b (W : cf_Wd N g mm nx sh) (x : Nat) : cf_aN N g mm nx sh P x ≤ 387420489 := by
  have h1 := cf_aN_i (P := P) W x
  have h2 := (cf_W_A W P x).2
  omega
theorem cf_dN_b (W : cf_Wd N g mm nx sh) : 0 < cf_dN N g mm nx sh P ∧ cf_dN N g mm nx sh P ≤ 387420489 := by
  have h1 := cf_dN_i (P := P) W
  have h2 := cf_W_D W P
  omega
theorem cf_Pos_le {b : Nat → Nat} {t : Nat → Nat → Nat} {w : Nat → Nat → Int} {M : Nat → Bool} {n : Nat} : ∀ d, cf_Pos b t w (cf_LM M (n + d)) → cf_Pos b t w (cf_LM M n) := by
  intro d
  induction d with
  | zero => intro h; exact h
  | succ d ih =>
    intro h
    have h0 : cf_Pos b t w (cf_LM M (n + d + 1)) := h
    by_cases hm : M (n + d) = true
    · rw [cf_LM_t hm] at h0; exact ih h0.2
    · rw [cf_LM_f hm] at h0; exact ih h0
theorem cf_W_El (W : cf_Wd N g mm nx sh) (P : Nat) : cf_El N (cf_b mm P) (cf_t mm nx P) (cf_w mm sh P) (cf_M N g mm nx P) (bt g) := by
  have h := cf_W_OK W P
  refine ⟨h.2.1, fun x _ k hk => Int.le_of_lt (h.2.2.2.2.1 x k hk), fun x _ => cf_W_W W P x, fun n hn => ?_⟩
  refine cf_Pos_le (N - n) ?_
  rw [show n + (N - n) = N by omega]
  exact cf_OK_pos h
/-- a moving state has a way -/
theorem cf_M_b (W : cf_Wd N g mm nx sh) {x : Nat} (hx : cf_M N g mm nx P x = true) : 0 < cf_b mm P x := by
  have h := cf_W_OK W P
  refine Classical.byContradiction (fun hn => ?_)
  have h1 := h.2.2.2.1 (fun y => y = x) (fun y hy => by
    subst hy
    exact ⟨h.2.1 y hx, fun k hk => by omega⟩) x rfl
  rw [h1] at hx; exact absurd hx (by decide)
theorem cf_M_mm (W : cf_Wd N g mm nx sh) {x : Nat} (hx : cf_M N g mm nx P x = true) : ¬ mm (2 * x) = 0 := by
  intro e
  have h1 := cf_M_b W hx
  rw [cf_b_0 W e] at h1; omega
/-- the values that X shows -/
def cf_Tp (N : Nat) (g : Int32) (mm nx sh : Nat → Nat) (P : Nat) (n : Nat) (a_to a_bo : Nat → Int64) : Prop :=
  ∀ s, s < n → a_to s = lN (cf_aN N g mm nx sh P s / Nat.gcd (cf_aN N g mm nx sh P s) (cf_dN N g mm nx sh P)) ∧ a_bo s = lN (cf_dN N g mm nx sh P / Nat.gcd (cf_aN N g mm nx sh P s) (cf_dN N g mm nx sh P))
theorem cf_Tp_upd {n : Nat} {a_to a_bo : Nat → Int64} {x y : Nat} (h : cf_Tp N g mm nx sh P n a_to a_bo) (hx : x = cf_aN N g mm nx sh P n / Nat.gcd (cf_aN N g mm nx sh P n) (cf_dN N g mm nx sh P)) (hy : y = cf_dN N g mm nx sh P / Nat.gcd (cf_aN N g mm nx sh P n) (cf_dN N g mm nx sh P)) :
    cf_Tp N g mm nx sh P (n + 1) (vp_updL a_to n (lN x)) (vp_updL a_bo n (lN y)) := by
  intro s hs
  by_cases e : s = n
  · subst e; rw [pk_uLs, pk_uLs, ← hx, ← hy]; exact ⟨rfl, rfl⟩
  · rw [pk_uLn e, pk_uLn e]; exact h s (by omega)
end
section
variable {N : Nat} {g : Int32} {mm nx sh : Nat → Nat} {P : Nat}
variable {f_c : Int32} {a_ac : Nat → Int32} {a_wc : Nat → Int32} {a_nx : Nat → Int32} {a_sh : Nat → Int32} {a_tb : Nat → Int64} {a_ro : Nat → Int32} {a_to : Nat → Int64} {a_bo : Nat → Int64} {a_bt : Nat → Int64} {a_bb : Nat → Int64} {a_wt : Nat → Int64} {a_wb : Nat → Int64}
theorem cf_X_s225 (W : cf_Wd N g mm nx sh) (hRO : cf_RO (cf_M N g mm nx P) N a_ro)
    (hT : ∀ x, x < N → cf_M N g mm nx P x = true → ∀ c, c ≤ cf_rk (cf_M N g mm nx P) N → a_tb (7 * cf_rk (cf_M N g mm nx P) x + c) = Int64.ofInt (cf_T (cf_b mm P) (cf_t mm nx P) (cf_w mm sh P) (cf_M N g mm nx P) (bt g) (cf_rk (cf_M N g mm nx P) N) N x c)) {post : SX → Prop}
    (K : ∀ a_to' a_bo' : Nat → Int64, cf_Tp N g mm nx sh P N a_to' a_bo' → post ((nI N), g, f_c, a_ac, a_wc, a_nx, a_sh, a_tb, a_ro, a_to', a_bo', a_bt, a_bb, a_wt, a_wb)) :
    ∀ (d s n : Nat) (a_to a_bo : Nat → Int64), s + d = N → d < n → cf_Tp N g mm nx sh P s a_to a_bo →
      wX_solve_225 post (nI (cf_rk (cf_M N g mm nx P) N)) (Int64.ofInt (cf_D (cf_b mm P) (cf_t mm nx P) (cf_w mm sh P) (cf_LM (cf_M N g mm nx P) N))) n (nI s) (nI N) g f_c a_ac a_wc a_nx a_sh a_tb a_ro a_to a_bo a_bt a_bb a_wt a_wb := by
  have hN := W.2.1
  have hz := cf_rk_le (M := cf_M N g mm nx P) N
  have hd := cf_dN_b (P := P) W
  intro d
  induction d with
  | zero =>
    intro s n a_to a_bo hs hn h
    cases n with
    | zero => omega
    | succ n =>
      have e : s = N := by omega
      subst e
      exact br_t (nI_le (by omega) (by omega)) (K a_to a_bo h)
  | succ d ih =>
    intro s n a_to a_bo hs hn h
    cases n with
    | zero => omega
    | succ n =>
      have ero : a_ro (nI s).toNatClampNeg = if cf_M N g mm nx P s = true then nI (cf_rk (cf_M N g mm nx P) s) else -1 := by
        rw [cf_c (by omega)]; exact hRO _ (by omega)
      have ha := cf_aN_b (P := P) W s
      refine br_f (nI_ge (by omega) (by omega)) (And.intro (cf_v (by omega)) ?_)
      by_cases hm : cf_M N g mm nx P s = true
      · rw [if_pos hm] at ero
        have hr := cf_rk_lt hm (show s < N by omega)
        have hne : ¬ a_ro (nI s).toNatClampNeg = -1 := by rw [ero]; exact cf_m1 (by omega)
        have ik : ((7 * nI (cf_rk (cf_M N g mm nx P) s)) + nI (cf_rk (cf_M N g mm nx P) N)).toNatClampNeg = 7 * cf_rk (cf_M N g mm nx P) s + cf_rk (cf_M N g mm nx P) N := by rw [cf_i7, cf_c (by omega)]
        refine br_f hne (And.intro (cf_v (by omega)) (And.intro (by rw [ero, cf_i7]; exact cf_v (by omega)) (And.intro (cf_v (by omega)) (br_f hne ?_))))
        have e1 : a_tb ((7 * a_ro (nI s).toNatClampNeg) + nI (cf_rk (cf_M N g mm nx P) N)).toNatClampNeg = lN (cf_aN N g mm nx sh P s) := by
          rw [ero, ik, hT s (by omega) hm _ (Nat.le_refl _), cf_T_fin hm (by omega), ← cf_lNi, cf_aN_i W]; rfl
        have e2 : Int64.ofInt (cf_D (cf_b mm P) (cf_t mm nx P) (cf_w mm sh P) (cf_LM (cf_M N g mm nx P) N)) = lN (cf_dN N g mm nx sh P) := by
          rw [← cf_lNi, cf_dN_i W]; rfl
        rw [e1, e2]
        refine cf_X_show (by omega) (by omega) hd.1 (by omega) (nm_r (nI_1 s) ?_)
        have ih' := ih (s + 1) n _ _ (by omega) (by omega) (cf_Tp_upd h rfl rfl)
        rw [e2] at ih'
        exact ih'
      · rw [if_neg hm] at ero
        refine br_t ero (And.intro (cf_v (by omega)) (br_t ero ?_))
        have hmf : cf_M N g mm nx P s = false := by
          cases e : cf_M N g mm nx P s with
          | false => rfl
          | true => exact absurd e hm
        have hA : cf_AA N g mm nx sh P s = cf_DD N g mm nx sh P * (if bt g s = true then 1 else 0) := cf_A_root (bt g) (cf_OK_nm hmf)
        have hai := cf_aN_i (P := P) W s
        have hdi := cf_dN_i (P := P) W
        have ih' := fun x y hx hy => ih (s + 1) n _ _ (by omega) (by omega) (cf_Tp_upd (x := x) (y := y) h hx hy)
        rw [cf_sr (by omega)]
        cases hg : bt g s with
        | true =>
          rw [hg, if_pos rfl, Int.mul_one] at hA
          have e3 : cf_aN N g mm nx sh P s = cf_dN N g mm nx sh P := by omega
          rw [e3, Nat.gcd_self, Nat.div_self hd.1] at ih'
          rw [if_pos rfl]
          exact cf_X_show (a := 1) (d := 1) (by omega) (by omega) (by omega) (by omega) (nm_r (nI_1 s) (ih' _ _ (by decide) (by decide)))
        | false =>
          rw [hg, if_neg (by decide), Int.mul_zero] at hA
          have e3 : cf_aN N g mm nx sh P s = 0 := by omega
          rw [e3, Nat.gcd_zero_left, Nat.zero_div, Nat.div_self hd.1] at ih'
          rw [if_neg (by decide)]
          exact cf_X_show (a := 0) (d := 1) (by omega) (by omega) (by omega) (by omega) (nm_r (nI_1 s) (ih' _ _ (by decide) (by decide)))
theorem cf_X_solve (W : cf_Wd N g mm nx sh) (V : cf_XW mm nx sh a_ac a_wc a_nx a_sh) (hP : P < 64) {post : SX → Prop}
    (K : ∀ (a_tb' : Nat → Int64) (a_ro' : Nat → Int32) (a_to' a_bo' : Nat → Int64), cf_Tp N g mm nx sh P N a_to' a_bo' → post ((nI N), g, f_c, a_ac, a_wc, a_nx, a_sh, a_tb', a_ro', a_to', a_bo', a_bt, a_bb, a_wt, a_wb)) :
    wpX_solve post ((nI N), g, f_c, a_ac, a_wc, a_nx, a_sh, a_tb, a_ro, a_to, a_bo, a_bt, a_bb, a_wt, a_wb) (nI P) := by
  have hN := W.2.1
  refine cf_X_hopeful W V hP ⟨N + 1, ?_⟩
  refine cf_X_s11 (M := cf_M N g mm nx P) hN (fun s _ => cf_M_iff P s) (fun a_ro' hRO => ⟨43, ?_⟩) N 0 _ a_ro (by omega) (by omega) (fun x hx => by omega)
  refine cf_X_s88 (fun a_tb' h0 => ⟨N + 1, ?_⟩) 42 0 _ a_tb (by omega) (by omega) (fun j hj => by omega)
  refine cf_X_s112 W V hP hRO (cf_W_OK W P).2.1 (fun x hx => cf_M_mm W hx) (fun a_tb' hT0 => ⟨cf_rk (cf_M N g mm nx P) N + 1, ?_⟩) N 0 _ a_tb' (by omega) (by omega) (fun x hx hm c hc => ?_)
  · refine cf_X_s158 hN (cf_W_El W P) (fun a_tb' hT => ⟨N + 1, ?_⟩) (cf_rk (cf_M N g mm nx P) N) 0 _ a_tb' (by omega) (Nat.zero_add _) (by omega) hT0
    exact cf_X_s225 W hRO hT (fun a_to' a_bo' h => K _ _ _ _ h) N 0 _ a_to a_bo (by omega) (by omega) (fun x hx => by omega)
  · have h1 := cf_rk_lt hm hx
    have h2 := cf_rk_le (M := cf_M N g mm nx P) N
    rw [h0 _ (by omega), if_neg (by omega)]; rfl
end
end
section
/-! Y: chosen, leads, reach, led -/
def cf_YW (mm nx sh : Nat → Nat) (a_mm a_nx a_sh : Nat → Int32) : Prop := (∀ j, a_mm j = nI (mm j)) ∧ (∀ j, a_nx j = nI (nx j)) ∧ (∀ j, a_sh j = nI (sh j))
def cf_yc (mm : Nat → Nat) (P s : Nat) : Nat := if P.testBit s = true ∧ 0 < mm (2 * s + 1) then 1 else 0
theorem cf_yc_ca (mm : Nat → Nat) (P s : Nat) : cf_ca mm P s = 2 * s + cf_yc mm P s := by
  unfold cf_ca cf_yc
  by_cases h : P.testBit s = true ∧ 0 < mm (2 * s + 1)
  · rw [if_pos h, if_pos h]
  · rw [if_neg h, if_neg h]; rfl
theorem cf_bf {x : Bool} (h : ¬ x = true) : x = false := by
  cases x with
  | false => rfl
  | true => exact absurd rfl h
section
variable {N : Nat} {g : Int32} {mm nx sh : Nat → Nat} {P : Nat}
variable {f_m : Int32} {f_a : Int64} {a_mm : Nat → Int32} {a_nx : Nat → Int32} {a_sh : Nat → Int32} {a_pk : Nat → Int32} {a_gd : Nat → Int64} {a_tp : Nat → Int64} {a_bt : Nat → Int64}
theorem cf_Y_chosen (W : cf_Wd N g mm nx sh) (V : cf_YW mm nx sh a_mm a_nx a_sh) {post : Int32 → Prop} {s : Nat} (hs : s < N) (hP : P < 64) (h : post (nI (cf_yc mm P s))) :
    wpY_chosen post ((nI N), g, f_m, f_a, a_mm, a_nx, a_sh, a_pk, a_gd, a_tp, a_bt) (nI s) (nI P) := by
  have hN := W.2.1
  have h3 := W.2.2.2.1 (2 * s + 1)
  by_cases hp : P.testBit s = true
  · have e : a_mm ((2 * nI s) + 1).toNatClampNeg = nI (mm (2 * s + 1)) := by rw [cf_i21, cf_c (by omega)]; exact V.1 _
    refine br_t ((cf_sr1 (by omega) (nI P)).mpr (by rw [cf_btN (by omega)]; exact hp)) (And.intro (by rw [cf_i21]; exact cf_v (by omega)) ?_)
    rw [e]
    by_cases h2 : 0 < mm (2 * s + 1)
    · have hc : cf_yc mm P s = 1 := if_pos ⟨hp, h2⟩
      rw [hc] at h
      exact br_f (nI_nle h2 (by omega)) h
    · have hc : cf_yc mm P s = 0 := if_neg (fun e => h2 e.2)
      rw [hc] at h
      exact br_t (nI_le (b := 0) (by omega) (by omega)) h
  · have hc : cf_yc mm P s = 0 := if_neg (fun e => hp e.1)
    rw [hc] at h
    exact br_f (fun e => hp (by rw [← cf_btN (P := P) (by omega)]; exact (cf_sr1 (by omega) (nI P)).mp e)) h
theorem cf_Y_leads11 (W : cf_Wd N g mm nx sh) (V : cf_YW mm nx sh a_mm a_nx a_sh) {post : Int32 → Prop} {s : Nat} (hs : s < N) {x : Int32}
    (K : post (if cf_an (fun k => bt x (cf_t mm nx P s k)) (cf_b mm P s) = true then 1 else 0)) :
    ∀ d k n, k + d = cf_b mm P s → d < n → cf_an (fun k => bt x (cf_t mm nx P s k)) k = false → wY_leads_11 post (nI s) x (nI (cf_yc mm P s)) (nI N) g f_m f_a a_mm a_nx a_sh a_pk a_gd a_tp a_bt n (nI k) := by
  have hN := W.2.1
  have hc := cf_ca_lt mm P s
  have hy := cf_yc_ca mm P s
  have e : a_mm ((2 * nI s) + nI (cf_yc mm P s)).toNatClampNeg = nI (cf_b mm P s) := by
    rw [cf_i2a, ← hy, cf_c (by omega)]; exact V.1 _
  have v12 : vp_in ((2 * nI s) + nI (cf_yc mm P s)) 12 := by rw [cf_i2a, ← hy]; exact cf_v (by omega)
  have h3 : cf_b mm P s ≤ 3 := W.2.2.2.1 _
  intro d
  induction d with
  | zero =>
    intro k n hk hn ha
    cases n with
    | zero => omega
    | succ n =>
      have ek : k = cf_b mm P s := by omega
      subst ek
      rw [if_neg (by rw [ha]; decide)] at K
      refine And.intro v12 (br_t ?_ K)
      rw [e]; exact nI_le (by omega) (by omega)
  | succ d ih =>
    intro k n hk hn ha
    cases n with
    | zero => omega
    | succ n =>
      have ht : cf_t mm nx P s k < N := W.2.2.2.2.1 _
      have e1 : a_nx (((6 * nI s) + (3 * nI (cf_yc mm P s))) + nI k).toNatClampNeg = nI (cf_t mm nx P s k) := by
        rw [cf_i6, ← hy, cf_c (by omega)]; exact V.2.1 _
      refine And.intro v12 (br_f ?_ (br_f (nI_ge (a := k) (b := 3) (by omega) (by omega)) (And.intro ?_ ?_)))
      · rw [e]; exact nI_ge (by omega) (by omega)
      · rw [cf_i6, ← hy]; exact cf_v (by omega)
      · rw [e1]
        by_cases hb : bt x (cf_t mm nx P s k) = true
        · rw [if_pos ((cf_an_iff _ _).mpr ⟨k, by omega, hb⟩)] at K
          exact br_t ((cf_sr1 (by omega) x).mpr hb) K
        · refine br_f (fun e => hb ((cf_sr1 (by omega) x).mp e)) (nm_r (nI_1 k) (ih (k + 1) n (by omega) (by omega) ?_))
          show (cf_an (fun k => bt x (cf_t mm nx P s k)) k || bt x (cf_t mm nx P s k)) = false
          rw [ha, cf_bf hb]; rfl
theorem cf_Y_leads (W : cf_Wd N g mm nx sh) (V : cf_YW mm nx sh a_mm a_nx a_sh) (hP : P < 64) {post : Int32 → Prop} {s : Nat} (hs : s < N) {x : Int32}
    (K : post (if cf_an (fun k => bt x (cf_t mm nx P s k)) (cf_b mm P s) = true then 1 else 0)) : wpY_leads post ((nI N), g, f_m, f_a, a_mm, a_nx, a_sh, a_pk, a_gd, a_tp, a_bt) (nI s) (nI P) x := by
  unfold wpY_leads
  dsimp only
  exact cf_Y_chosen W V hs hP ⟨cf_b mm P s + 1, cf_Y_leads11 W V hs K (cf_b mm P s) 0 _ (by omega) (by omega) rfl⟩
theorem cf_Y_reach16 (W : cf_Wd N g mm nx sh) (V : cf_YW mm nx sh a_mm a_nx a_sh) (hP : P < 64) {post : SY → Prop} {J7 : Int32 → Int32 → Prop} {r : Nat}
    {x : Int32} (K : J7 (cf_rd (cf_b mm P) (cf_t mm nx P) x N) (nI (r + 1))) :
    ∀ d s n, s + d = N → d < n → wY_reach_16 post J7 (nI P) (nI r) (nI N) g f_m f_a a_mm a_nx a_sh a_pk a_gd a_tp a_bt n (cf_rd (cf_b mm P) (cf_t mm nx P) x s) (nI s) := by
  have hN := W.2.1
  intro d
  induction d with
  | zero =>
    intro s n hs hn
    cases n with
    | zero => omega
    | succ n =>
      have e : s = N := by omega
      subst e
      exact br_t (nI_le (by omega) (by omega)) (nm_r (nI_1 r) K)
  | succ d ih =>
    intro s n hs hn
    cases n with
    | zero => omega
    | succ n =>
      have ih' := ih (s + 1) n (by omega) (by omega)
      have hst : cf_rd (cf_b mm P) (cf_t mm nx P) x (s + 1) = cf_st (cf_b mm P) (cf_t mm nx P) (cf_rd (cf_b mm P) (cf_t mm nx P) x s) s := rfl
      rw [hst] at ih'
      unfold cf_st at ih'
      refine br_f (nI_ge (by omega) (by omega)) (br_f (nI_ge (a := s) (b := 6) (by omega) (by omega)) (cf_Y_leads W V hP (by omega) ?_))
      by_cases h : cf_an (fun k => bt (cf_rd (cf_b mm P) (cf_t mm nx P) x s) (cf_t mm nx P s k)) (cf_b mm P s) = true
      · rw [if_pos h]
        rw [if_pos h] at ih'
        exact br_f (by decide) (nm_r (e' := cf_rd (cf_b mm P) (cf_t mm nx P) x s ||| cf_bit s) rfl (nm_r (nI_1 s) ih'))
      · rw [if_neg h]
        rw [if_neg h] at ih'
        exact br_t rfl (nm_r (nI_1 s) ih')
theorem cf_Y_reach7 (W : cf_Wd N g mm nx sh) (V : cf_YW mm nx sh a_mm a_nx a_sh) (hP : P < 64) {post : SY → Prop}
    (K : ∀ f_m' : Int32, (∀ i, i < 32 → bt f_m' i = cf_M N g mm nx P i) → post ((nI N), g, f_m', f_a, a_mm, a_nx, a_sh, a_pk, a_gd, a_tp, a_bt)) :
    ∀ d r n, r + d = 6 → d < n → wY_reach_7 post (nI P) (nI N) g f_m f_a a_mm a_nx a_sh a_pk a_gd a_tp a_bt n (cf_rr (cf_b mm P) (cf_t mm nx P) N g r) (nI r) := by
  have hN := W.2.1
  intro d
  induction d with
  | zero =>
    intro r n hr hn
    cases n with
    | zero => omega
    | succ n =>
      have e : r = 6 := by omega
      subst e
      have e2 := cf_rr_6 (b := cf_b mm P) (t := cf_t mm nx P) (N := N) (by omega) W.2.2.1 (6 - N)
      rw [show N + (6 - N) = 6 by omega] at e2
      refine br_t (nI_le (a := 6) (by omega) (by omega)) (nm_e (K _ (fun i hi => ?_)))
      rw [e2, b_and, b_xor, b_m1 i hi]
      unfold cf_M cf_hp
      cases bt g i <;> rfl
  | succ d ih =>
    intro r n hr hn
    cases n with
    | zero => omega
    | succ n =>
      exact br_f (nI_ge (a := r) (b := 6) (by omega) (by omega)) ⟨N + 1, cf_Y_reach16 (J7 := wY_reach_7 post (nI P) (nI N) g f_m f_a a_mm a_nx a_sh a_pk a_gd a_tp a_bt n) W V hP (ih (r + 1) n (by omega) (by omega)) N 0 _ (by omega) (by omega)⟩
theorem cf_Y_reach (W : cf_Wd N g mm nx sh) (V : cf_YW mm nx sh a_mm a_nx a_sh) (hP : P < 64) {post : SY → Prop}
    (K : ∀ f_m' : Int32, (∀ i, i < 32 → bt f_m' i = cf_M N g mm nx P i) → post ((nI N), g, f_m', f_a, a_mm, a_nx, a_sh, a_pk, a_gd, a_tp, a_bt)) : wpY_reach post ((nI N), g, f_m, f_a, a_mm, a_nx, a_sh, a_pk, a_gd, a_tp, a_bt) (nI P) :=
  ⟨7, cf_Y_reach7 W V hP K 6 0 _ (by omega) (by omega)⟩
theorem cf_Y_led4 {M : Nat → Bool} {τ : Nat → Nat} (hN : N ≤ 6) (V : ∀ j, a_nx j = nI (nx j)) (hm : ∀ i, i < 32 → bt f_m i = M i) (hpk : ∀ x, x < N → M x = true → ∃ j, j < 36 ∧ a_pk x = nI j ∧ nx j = τ x) (hτ : ∀ x, x < N → M x = true → τ x < N) {post : Int32 → Prop} :
    ∀ f k n x, k + f = 7 → f < n → x < N → post (cf_ld M (bt g) τ f x) → wY_led_4 post (nI N) g f_m f_a a_mm a_nx a_sh a_pk a_gd a_tp a_bt n (nI x) (nI k) := by
  intro f
  induction f with
  | zero =>
    intro k n x hk hn hx h
    cases n with
    | zero => omega
    | succ n => exact br_t (nI_le (a := 7) (by omega) (by omega)) h
  | succ f ih =>
    intro k n x hk hn hx h
    cases n with
    | zero => omega
    | succ n =>
      unfold cf_ld at h
      refine br_f (nI_ge (a := k) (b := 7) (by omega) (by omega)) ?_
      by_cases hg : bt g x = true
      · rw [if_pos hg] at h
        exact br_t ((cf_sr1 (by omega) g).mpr hg) h
      · rw [if_neg hg] at h
        refine br_f (fun e => hg ((cf_sr1 (by omega) g).mp e)) ?_
        by_cases hM : M x = true
        · rw [if_pos hM] at h
          obtain ⟨j, h1, h2, h3⟩ := hpk x hx hM
          have e1 : a_pk (nI x).toNatClampNeg = nI j := by rw [cf_c (by omega)]; exact h2
          refine br_f (fun e => by have := (cf_sr0 (by omega) f_m).mp e; rw [hm x (by omega), hM] at this; exact absurd this (by decide)) (And.intro (cf_v (by omega)) (And.intro (by rw [e1]; exact cf_v h1) (nm_r (e' := nI (τ x)) ?_ (nm_r (nI_1 k) (ih (k + 1) n (τ x) (by omega) (by omega) (hτ x hx hM) h)))))
          rw [e1, cf_c (by omega), V, h3]
        · rw [if_neg hM] at h
          exact br_t ((cf_sr0 (by omega) f_m).mpr (by rw [hm x (by omega)]; exact cf_bf hM)) h
theorem cf_Y_led {M : Nat → Bool} {τ : Nat → Nat} (hN : N ≤ 6) (V : ∀ j, a_nx j = nI (nx j)) (hm : ∀ i, i < 32 → bt f_m i = M i) (hpk : ∀ x, x < N → M x = true → ∃ j, j < 36 ∧ a_pk x = nI j ∧ nx j = τ x) (hτ : ∀ x, x < N → M x = true → τ x < N) {post : Int32 → Prop} {x : Nat} (hx : x < N)
    (h : post (cf_ld M (bt g) τ 7 x)) : wpY_led post ((nI N), g, f_m, f_a, a_mm, a_nx, a_sh, a_pk, a_gd, a_tp, a_bt) (nI x) :=
  ⟨8, cf_Y_led4 hN V hm hpk hτ 7 0 _ x (by omega) (by omega) hx h⟩
end
end
section
/-! Y: count, work -/
section
variable {N : Nat} {g : Int32} {mm nx sh : Nat → Nat} {P : Nat} {M : Nat → Bool}
variable {f_m : Int32} {f_a : Int64} {a_mm : Nat → Int32} {a_nx : Nat → Int32} {a_sh : Nat → Int32} {a_pk : Nat → Int32} {a_gd : Nat → Int64} {a_tp : Nat → Int64} {a_bt : Nat → Int64}
theorem cf_Y_count173 {τ : Nat → Nat} (hN : N ≤ 6) (V : ∀ j, a_nx j = nI (nx j)) (hm : ∀ i, i < 32 → bt f_m i = M i) (hpk : ∀ x, x < N → M x = true → ∃ j, j < 36 ∧ a_pk x = nI j ∧ nx j = τ x) (hτ : ∀ x, x < N → M x = true → τ x < N) {post : SY → Prop} {x3 : Int64} {gd0 : Nat → Int64}
    (K : ∀ a_gd' : Nat → Int64, (∀ x, x < N → a_gd' x = if cf_ld M (bt g) τ 7 x = 1 then gd0 x + x3 else gd0 x) → post ((nI N), g, f_m, f_a, a_mm, a_nx, a_sh, a_pk, a_gd', a_tp, a_bt)) :
    ∀ (d s n : Nat) (a_gd : Nat → Int64), s + d = N → d < n → (∀ x, x < N → a_gd x = if x < s ∧ cf_ld M (bt g) τ 7 x = 1 then gd0 x + x3 else gd0 x) → wY_count_173 post x3 (nI N) g f_m f_a n (nI s) a_mm a_nx a_sh a_pk a_gd a_tp a_bt := by
  intro d
  induction d with
  | zero =>
    intro s n a_gd hs hn h
    cases n with
    | zero => omega
    | succ n =>
      refine br_t (nI_le (by omega) (by omega)) (K a_gd (fun x hx => ?_))
      rw [h x hx]
      by_cases e : cf_ld M (bt g) τ 7 x = 1
      · rw [if_pos e, if_pos ⟨by omega, e⟩]
      · rw [if_neg e, if_neg (fun e2 => e e2.2)]
  | succ d ih =>
    intro s n a_gd hs hn h
    cases n with
    | zero => omega
    | succ n =>
      refine br_f (nI_ge (by omega) (by omega)) (br_f (nI_ge (a := s) (b := 6) (by omega) (by omega)) (cf_Y_led hN V hm hpk hτ (by omega) ?_))
      by_cases e : cf_ld M (bt g) τ 7 s = 1
      · refine br_t e (And.intro (cf_v (by omega)) (And.intro (cf_v (by omega)) (nm_e (nm_r (nI_1 s) (ih (s + 1) n _ (by omega) (by omega) (fun x hx => ?_))))))
        rw [cf_c (by omega)]
        by_cases e2 : x = s
        · subst e2
          rw [pk_uLs, if_pos ⟨by omega, e⟩, h x hx, if_neg (fun e3 => by omega)]
        · rw [pk_uLn e2, h x hx]
          by_cases e3 : x < s ∧ cf_ld M (bt g) τ 7 x = 1
          · rw [if_pos e3, if_pos ⟨by omega, e3.2⟩]
          · rw [if_neg e3, if_neg (fun e4 => e3 ⟨by omega, e4.2⟩)]
      · refine br_f e (nm_r (nI_1 s) (ih (s + 1) n a_gd (by omega) (by omega) (fun x hx => ?_)))
        rw [h x hx]
        by_cases e3 : x < s ∧ cf_ld M (bt g) τ 7 x = 1
        · rw [if_pos e3, if_pos ⟨by omega, e3.2⟩]
        · rw [if_neg e3, if_neg (fun e4 => e3 ⟨by
            by_cases e2 : x = s
            · subst e2; exact absurd e4.2 e
            · omega, e4.2⟩)]
theorem cf_Y_count135 {τ : Nat → Nat} (hN : N ≤ 6) (V : ∀ j, a_nx j = nI (nx j)) (hm : ∀ i, i < 32 → bt f_m i = M i) (hpk : ∀ x, x < N → M x = true → ∃ j, j < 36 ∧ a_pk x = nI j ∧ nx j = τ x) (hτ : ∀ x, x < N → M x = true → τ x < N) {post : SY → Prop} {x3 : Int64}
    (Kt : (∀ x, x < N → 0 ≤ cf_ld M (bt g) τ 7 x) → ∃ n173, wY_count_173 post x3 (nI N) g f_m (f_a + x3) n173 0 a_mm a_nx a_sh a_pk a_gd a_tp a_bt)
    (Kf : (∃ x, x < N ∧ ¬ 0 ≤ cf_ld M (bt g) τ 7 x) → post ((nI N), g, f_m, f_a, a_mm, a_nx, a_sh, a_pk, a_gd, a_tp, a_bt)) :
    ∀ (d s n : Nat), s + d = N → d < n → (∀ x, x < s → 0 ≤ cf_ld M (bt g) τ 7 x) → wY_count_135 post x3 (nI N) g f_m f_a a_mm a_nx a_sh a_pk a_gd a_tp a_bt n (nI s) := by
  intro d
  induction d with
  | zero =>
    intro s n hs hn h
    cases n with
    | zero => omega
    | succ n => exact br_t (nI_le (by omega) (by omega)) (nm_e (Kt (fun x hx => h x (by omega))))
  | succ d ih =>
    intro s n hs hn h
    cases n with
    | zero => omega
    | succ n =>
      refine br_f (nI_ge (by omega) (by omega)) (cf_Y_led hN V hm hpk hτ (by omega) ?_)
      by_cases e : 0 ≤ cf_ld M (bt g) τ 7 s
      · refine br_t e (nm_r (nI_1 s) (ih (s + 1) n (by omega) (by omega) (fun x hx => ?_)))
        by_cases e2 : x = s
        · subst e2; exact e
        · exact h x (by omega)
      · exact br_f e (Kf ⟨s, by omega, e⟩)
theorem cf_Y_count8 (W : cf_Wd N g mm nx sh) (V : cf_YW mm nx sh a_mm a_nx a_sh) (hP : P < 64) (hm : ∀ i, i < 32 → bt f_m i = M i) (hb : ∀ x, M x = true → 0 < cf_b mm P x) {code : Nat} (hcode : code < 2 ^ 31) {post : SY → Prop}
    (K : ∀ a_pk' : Nat → Int32, (∀ x, x < N → M x = true → a_pk' x = nI (3 * cf_ca mm P x + cf_dg M (cf_b mm P) code x)) → ∃ n135, wY_count_135 post (Int64.ofInt (cf_P M (cf_b mm P) (cf_w mm sh P) code N)) (nI N) g f_m f_a a_mm a_nx a_sh a_pk' a_gd a_tp a_bt n135 0) :
    ∀ (d s n : Nat) (a_pk : Nat → Int32), s + d = N → d < n → (∀ x, x < s → M x = true → a_pk x = nI (3 * cf_ca mm P x + cf_dg M (cf_b mm P) code x)) →
      wY_count_8 post (nI P) (nI N) g f_m f_a n (Int64.ofInt (cf_P M (cf_b mm P) (cf_w mm sh P) code s)) (nI (code / cf_B M (cf_b mm P) s)) (nI s) a_mm a_nx a_sh a_pk a_gd a_tp a_bt := by
  have hN := W.2.1
  intro d
  induction d with
  | zero =>
    intro s n a_pk hs hn h
    cases n with
    | zero => omega
    | succ n =>
      have e : s = N := by omega
      subst e
      exact br_t (nI_le (by omega) (by omega)) (K a_pk h)
  | succ d ih =>
    intro s n a_pk hs hn h
    cases n with
    | zero => omega
    | succ n =>
      refine br_f (nI_ge (by omega) (by omega)) (br_f (nI_ge (a := s) (b := 6) (by omega) (by omega)) ?_)
      by_cases hM : M s = true
      · refine br_t ((cf_sr1 (by omega) f_m).mpr (by rw [hm s (by omega)]; exact hM)) (cf_Y_chosen W V (by omega) hP ?_)
        have hc := cf_ca_lt mm P s
        have hy := cf_yc_ca mm P s
        have hb1 := hb s hM
        have hb3 : cf_b mm P s ≤ 3 := W.2.2.2.1 _
        have e : a_mm ((2 * nI s) + nI (cf_yc mm P s)).toNatClampNeg = nI (cf_b mm P s) := by
          rw [cf_i2a, ← hy, cf_c (by omega)]; exact V.1 _
        have v12 : vp_in ((2 * nI s) + nI (cf_yc mm P s)) 12 := by rw [cf_i2a, ← hy]; exact cf_v (by omega)
        have hq : code / cf_B M (cf_b mm P) s < 2 ^ 31 := Nat.lt_of_le_of_lt (Nat.div_le_self _ _) hcode
        have hdg : cf_dg M (cf_b mm P) code s < cf_b mm P s := Nat.mod_lt _ hb1
        have n0 : ¬ nI (cf_b mm P s) = 0 := nI_ne0 hb1 (by omega)
        have hpos : upd a_pk (nI s).toNatClampNeg (nI (3 * cf_ca mm P s + cf_dg M (cf_b mm P) code s)) (nI s).toNatClampNeg = nI (3 * cf_ca mm P s + cf_dg M (cf_b mm P) code s) := pk_us
        refine And.intro v12 ?_
        rw [e]
        refine br_t (nI_le (a := 1) (by omega) (by omega)) (And.intro v12 (And.intro n0 (And.intro (cf_v (by omega)) (nm_r (e' := upd a_pk (nI s).toNatClampNeg (nI (3 * cf_ca mm P s + cf_dg M (cf_b mm P) code s))) ?_ (And.intro n0 (nm_r (e' := nI (code / cf_B M (cf_b mm P) (s + 1))) ?_ (And.intro (cf_v (by omega)) (And.intro ?_ (nm_r (e' := Int64.ofInt (cf_P M (cf_b mm P) (cf_w mm sh P) code (s + 1))) ?_ (nm_r (nI_1 s) (ih (s + 1) n _ (by omega) (by omega) ?_)))))))))))
        · rw [pk_rem hq hb1 (by omega), cf_i6, ← hy]; rfl
        · rw [pk_div hq hb1 (by omega), cf_B_t hM, Nat.div_div_eq_div_mul]
        · rw [hpos]; exact cf_v (by omega)
        · rw [hpos, cf_c (by omega), V.2.2, cf_l64 (by have := W.2.2.2.2.2.1 (3 * cf_ca mm P s + cf_dg M (cf_b mm P) code s); omega), cf_P_t hM, Int64.ofInt_mul]; rfl
        · intro x hx hx'
          rw [cf_c (by omega)]
          by_cases e2 : x = s
          · subst e2; exact pk_us
          · rw [pk_un e2]; exact h x (by omega) hx'
      · have ih' := ih (s + 1) n a_pk (by omega) (by omega) (fun x hx hx' => by
          by_cases e2 : x = s
          · subst e2; exact absurd hx' hM
          · exact h x (by omega) hx')
        rw [cf_P_f hM, cf_B_f hM] at ih'
        exact br_f (fun e => hM (by rw [← hm s (by omega)]; exact (cf_sr1 (by omega) f_m).mp e)) (nm_r (nI_1 s) ih')
/-- the moves of a code -/
def cf_mv (mm nx : Nat → Nat) (P : Nat) (M : Nat → Bool) (code x : Nat) : Nat := cf_t mm nx P x (cf_dg M (cf_b mm P) code x)
theorem cf_Y_count (W : cf_Wd N g mm nx sh) (V : cf_YW mm nx sh a_mm a_nx a_sh) (hP : P < 64) (hm : ∀ i, i < 32 → bt f_m i = M i) (hb : ∀ x, M x = true → 0 < cf_b mm P x) (hG : ∀ x, M x = true → bt g x = false) (hMN : ∀ x, M x = true → x < N) {code : Nat} (hcode : code < 2 ^ 31) {post : SY → Prop}
    (K : ∀ (a_pk' : Nat → Int32) (a_gd' : Nat → Int64) (f_a' : Int64), f_a' = f_a + Int64.ofInt (cf_P M (cf_b mm P) (cf_w mm sh P) code N * (if cf_ac M (cf_mv mm nx P M code) N = true then 1 else 0)) →
      (∀ x, x < N → a_gd' x = a_gd x + Int64.ofInt (cf_P M (cf_b mm P) (cf_w mm sh P) code N * (if cf_ac M (cf_mv mm nx P M code) N = true then (if bt g (cf_rt M (cf_mv mm nx P M code) N x) = true then 1 else 0) else 0))) → post ((nI N), g, f_m, f_a', a_mm, a_nx, a_sh, a_pk', a_gd', a_tp, a_bt)) :
    wpY_count post ((nI N), g, f_m, f_a, a_mm, a_nx, a_sh, a_pk, a_gd, a_tp, a_bt) (nI code) (nI P) := by
  have hN := W.2.1
  have h64 : ∀ x : Int64, x + Int64.ofInt 0 = x := fun x => Int64.add_zero x
  refine ⟨N + 1, ?_⟩
  have h8 := cf_Y_count8 (f_m := f_m) (f_a := f_a) (a_gd := a_gd) (a_tp := a_tp) (a_bt := a_bt) W V hP hm hb hcode (post := post) (fun a_pk' hpk => ⟨N + 1, ?_⟩) N 0 (N + 1) a_pk (by omega) (by omega) (fun x hx => by omega)
  · have e0 : code / cf_B M (cf_b mm P) 0 = code := Nat.div_one code
    rw [e0] at h8
    exact h8
  · have hpk' : ∀ x, x < N → M x = true → ∃ j, j < 36 ∧ a_pk' x = nI j ∧ nx j = cf_mv mm nx P M code x := fun x hx hx' => by
      have hc := cf_ca_lt mm P x
      have hb3 : cf_b mm P x ≤ 3 := W.2.2.2.1 _
      have hdg : cf_dg M (cf_b mm P) code x < cf_b mm P x := Nat.mod_lt _ (hb x hx')
      exact ⟨_, by omega, hpk x hx hx', rfl⟩
    have hτ : ∀ x, x < N → M x = true → cf_mv mm nx P M code x < N := fun x _ _ => W.2.2.2.2.1 _
    refine cf_Y_count135 hN V.2.1 hm hpk' hτ (fun hall => ⟨N + 1, ?_⟩) (fun hex => ?_) N 0 _ (by omega) (by omega) (fun x hx => by omega)
    · have hac : cf_ac M (cf_mv mm nx P M code) N = true := by
        refine Classical.byContradiction (fun hn => ?_)
        obtain ⟨s, h1, h2⟩ := cf_ld_not hG hn
        have h3 := hall s h1
        rw [h2 7] at h3
        exact absurd h3 (by decide)
      refine cf_Y_count173 hN V.2.1 hm hpk' hτ (gd0 := a_gd) (fun a_gd' h => K a_pk' a_gd' _ ?_ ?_) N 0 _ a_gd (by omega) (by omega) (fun x hx => by rw [if_neg (fun e => by omega)])
      · rw [if_pos hac, Int.mul_one]
      · intro x hx
        rw [h x hx, if_pos hac, cf_ld_ac hN hG hMN hac]
        by_cases e : bt g (cf_rt M (cf_mv mm nx P M code) N x) = true
        · rw [if_pos e, if_pos e, if_pos rfl, Int.mul_one]
        · rw [if_neg e, if_neg e, if_neg (by decide), Int.mul_zero, h64]
    · have hac : ¬ cf_ac M (cf_mv mm nx P M code) N = true := by
        intro hac
        obtain ⟨x, _, h2⟩ := hex
        rw [cf_ld_ac hN hG hMN hac] at h2
        by_cases e : bt g (cf_rt M (cf_mv mm nx P M code) N x) = true
        · rw [if_pos e] at h2; exact h2 (by decide)
        · rw [if_neg e] at h2; exact h2 (by decide)
      refine K a_pk' a_gd f_a ?_ ?_
      · rw [if_neg hac, Int.mul_zero, h64]
      · intro x hx
        rw [if_neg hac, Int.mul_zero, h64]
theorem cf_Y_work87 (W : cf_Wd N g mm nx sh) (V : cf_YW mm nx sh a_mm a_nx a_sh) (hP : P < 64) (hm : ∀ i, i < 32 → bt f_m i = M i) (hb : ∀ x, M x = true → 0 < cf_b mm P x) (hG : ∀ x, M x = true → bt g x = false) (hMN : ∀ x, M x = true → x < N) {e : Nat} (he : e < 2 ^ 31) {post : SY → Prop}
    (K : ∀ (a_pk' : Nat → Int32) (a_gd' : Nat → Int64) (f_a' : Int64), f_a' = Int64.ofInt (cf_S e (fun c => cf_P M (cf_b mm P) (cf_w mm sh P) c N * (if cf_ac M (cf_mv mm nx P M c) N = true then 1 else 0))) →
      (∀ x, x < N → a_gd' x = Int64.ofInt (cf_S e (fun c => cf_P M (cf_b mm P) (cf_w mm sh P) c N * (if cf_ac M (cf_mv mm nx P M c) N = true then (if bt g (cf_rt M (cf_mv mm nx P M c) N x) = true then 1 else 0) else 0)))) → post ((nI N), g, f_m, f_a', a_mm, a_nx, a_sh, a_pk', a_gd', a_tp, a_bt)) :
    ∀ (d c n : Nat) (a_pk : Nat → Int32) (a_gd : Nat → Int64) (f_a : Int64), c + d = e → d < n →
      f_a = Int64.ofInt (cf_S c (fun c => cf_P M (cf_b mm P) (cf_w mm sh P) c N * (if cf_ac M (cf_mv mm nx P M c) N = true then 1 else 0))) →
      (∀ x, x < N → a_gd x = Int64.ofInt (cf_S c (fun c => cf_P M (cf_b mm P) (cf_w mm sh P) c N * (if cf_ac M (cf_mv mm nx P M c) N = true then (if bt g (cf_rt M (cf_mv mm nx P M c) N x) = true then 1 else 0) else 0)))) →
      wY_work_87 post (nI P) (nI e) n (nI c) (nI N) g f_m f_a a_mm a_nx a_sh a_pk a_gd a_tp a_bt := by
  intro d
  induction d with
  | zero =>
    intro c n a_pk a_gd f_a hc hn h1 h2
    cases n with
    | zero => omega
    | succ n =>
      have ec : c = e := by omega
      subst ec
      exact br_t (nI_le (by omega) (by omega)) (K a_pk a_gd f_a h1 h2)
  | succ d ih =>
    intro c n a_pk a_gd f_a hc hn h1 h2
    cases n with
    | zero => omega
    | succ n =>
      refine br_f (nI_ge (by omega) (by omega)) (cf_Y_count W V hP hm hb hG hMN (by omega) (fun a_pk' a_gd' f_a' h3 h4 => ?_))
      refine nm_r (nI_1 c) (ih (c + 1) n a_pk' a_gd' f_a' (by omega) (by omega) ?_ ?_)
      · rw [h3, h1, ← Int64.ofInt_add]; rfl
      · intro x hx
        rw [h4 x hx, h2 x hx, ← Int64.ofInt_add]; rfl
theorem cf_Y_work35 (W : cf_Wd N g mm nx sh) (V : cf_YW mm nx sh a_mm a_nx a_sh) (hP : P < 64) (hm : ∀ i, i < 32 → bt f_m i = M i) {post : SY → Prop}
    (K : ∃ n87, wY_work_87 post (nI P) (nI (cf_B M (cf_b mm P) N)) n87 0 (nI N) g f_m f_a a_mm a_nx a_sh a_pk a_gd a_tp a_bt) :
    ∀ (d s n : Nat), s + d = N → d < n → wY_work_35 post (nI P) (nI N) g f_m f_a a_mm a_nx a_sh a_pk a_gd a_tp a_bt n (nI (cf_B M (cf_b mm P) s)) (nI s) := by
  have hN := W.2.1
  intro d
  induction d with
  | zero =>
    intro s n hs hn
    cases n with
    | zero => omega
    | succ n =>
      have e : s = N := by omega
      subst e
      exact br_t (nI_le (by omega) (by omega)) K
  | succ d ih =>
    intro s n hs hn
    cases n with
    | zero => omega
    | succ n =>
      have ih' := ih (s + 1) n (by omega) (by omega)
      refine br_f (nI_ge (by omega) (by omega)) (br_f (nI_ge (a := s) (b := 6) (by omega) (by omega)) ?_)
      by_cases hM : M s = true
      · have hc := cf_ca_lt mm P s
        have hy := cf_yc_ca mm P s
        have e : a_mm ((2 * nI s) + nI (cf_yc mm P s)).toNatClampNeg = nI (cf_b mm P s) := by
          rw [cf_i2a, ← hy, cf_c (by omega)]; exact V.1 _
        refine br_t ((cf_sr1 (by omega) f_m).mpr (by rw [hm s (by omega)]; exact hM)) (cf_Y_chosen W V (by omega) hP ?_)
        refine And.intro (by rw [cf_i2a, ← hy]; exact cf_v (by omega)) (nm_r (e' := nI (cf_B M (cf_b mm P) (s + 1))) ?_ (nm_r (nI_1 s) ih'))
        rw [e, pk_mul, cf_B_t hM]
      · rw [cf_B_f hM] at ih'
        exact br_f (fun e => hM (by rw [← hm s (by omega)]; exact (cf_sr1 (by omega) f_m).mp e)) (nm_r (nI_1 s) ih')
theorem cf_Y_work12 {post : SY → Prop} {x1 : Int32} (K : ∀ a_gd' : Nat → Int64, (∀ x, x < 6 → a_gd' x = 0) → ∃ n35, wY_work_35 post x1 (nI N) g f_m f_a a_mm a_nx a_sh a_pk a_gd' a_tp a_bt n35 1 0) :
    ∀ (d s n : Nat) (a_gd : Nat → Int64), s + d = 6 → d < n → (∀ x, x < s → a_gd x = 0) → wY_work_12 post x1 (nI N) g f_m f_a n (nI s) a_mm a_nx a_sh a_pk a_gd a_tp a_bt := by
  intro d
  induction d with
  | zero =>
    intro s n a_gd hs hn h
    cases n with
    | zero => omega
    | succ n => exact br_t (nI_le (a := 6) (by omega) (by omega)) (K a_gd (fun x hx => h x (by omega)))
  | succ d ih =>
    intro s n a_gd hs hn h
    cases n with
    | zero => omega
    | succ n =>
      refine br_f (nI_ge (a := s) (b := 6) (by omega) (by omega)) (And.intro (cf_v (by omega)) (nm_e (nm_r (nI_1 s) (ih (s + 1) n _ (by omega) (by omega) (fun x hx => ?_)))))
      rw [cf_c (by omega)]
      by_cases e : x = s
      · subst e; exact pk_uLs
      · rw [pk_uLn e]; exact h x (by omega)
theorem cf_B_le {b : Nat → Nat} (hb : ∀ x, b x ≤ 3) (n : Nat) : cf_B M b n ≤ 3 ^ n := by
  induction n with
  | zero => exact Nat.le_refl _
  | succ n ih =>
    by_cases h : M n = true
    · rw [cf_B_t h, Nat.pow_succ]; exact Nat.mul_le_mul ih (hb n)
    · rw [cf_B_f h, Nat.pow_succ]; omega
theorem cf_Y_work (W : cf_Wd N g mm nx sh) (V : cf_YW mm nx sh a_mm a_nx a_sh) (hP : P < 64) {post : SY → Prop}
    (K : ∀ (f_m' : Int32) (a_pk' : Nat → Int32) (a_gd' : Nat → Int64), (∀ x, x < N → a_gd' x = lN (cf_aN N g mm nx sh P x)) → post ((nI N), g, f_m', lN (cf_dN N g mm nx sh P), a_mm, a_nx, a_sh, a_pk', a_gd', a_tp, a_bt)) :
    wpY_work post ((nI N), g, f_m, f_a, a_mm, a_nx, a_sh, a_pk, a_gd, a_tp, a_bt) (nI P) := by
  have hN := W.2.1
  have hO := cf_W_OK W P
  have hbp : ∀ x, cf_M N g mm nx P x = true → 0 < cf_b mm P x := fun x hx => cf_M_b W hx
  have hB : cf_B (cf_M N g mm nx P) (cf_b mm P) N ≤ 3 ^ 6 := Nat.le_trans (cf_B_le (fun x => W.2.2.2.1 _) N) (Nat.pow_le_pow_right (by decide) hN)
  refine cf_Y_reach W V hP (fun f_m' hm => ⟨7, ?_⟩)
  refine cf_Y_work12 (fun a_gd' h0 => ⟨N + 1, ?_⟩) 6 0 _ a_gd (by omega) (by omega) (fun x hx => by omega)
  refine cf_Y_work35 (M := cf_M N g mm nx P) W V hP hm ⟨cf_B (cf_M N g mm nx P) (cf_b mm P) N + 1, ?_⟩ N 0 _ (by omega) (by omega)
  refine cf_Y_work87 W V hP hm hbp hO.2.1 hO.1 (by omega) (fun a_pk' a_gd' f_a' h1 h2 => ?_) (cf_B (cf_M N g mm nx P) (cf_b mm P) N) 0 _ a_pk a_gd' 0 (by omega) (by omega) rfl (fun x hx => by rw [h0 x (by omega)]; rfl)
  have e1 : f_a' = lN (cf_dN N g mm nx sh P) := by
    rw [h1, ← cf_lNi, cf_dN_i W]
    exact congrArg Int64.ofInt (cf_code (t := cf_t mm nx P) (w := cf_w mm sh P) hbp N (fun _ => 1))
  rw [e1]
  refine K f_m' a_pk' a_gd' (fun x hx => ?_)
  rw [h2 x hx, ← cf_lNi, cf_aN_i W]
  exact congrArg Int64.ofInt (cf_code (t := cf_t mm nx P) (w := cf_w mm sh P) hbp N (fun ρ => if bt g (ρ x) = true then 1 else 0))
end
end
section
/-! Y: common, top, bottom; the best (worst) value over plans -/
section
variable {N : Nat} {g : Int32} {mm nx sh : Nat → Nat} {P : Nat}
variable {f_m : Int32} {f_a : Int64} {a_mm : Nat → Int32} {a_nx : Nat → Int32} {a_sh : Nat → Int32} {a_pk : Nat → Int32} {a_gd : Nat → Int64} {a_tp : Nat → Int64} {a_bt : Nat → Int64}
theorem cf_Y_comz {post : Int64 → Prop} {x : Nat} (hx : 0 < x) (hx2 : x < 2 ^ 62) (K : post (lN x)) : ∀ f k n, k + f = 100 → f < n → wY_common_9 post (nI N) g f_m f_a a_mm a_nx a_sh a_pk a_gd a_tp a_bt n (lN x) (lN 0) (nI k) := by
  intro f
  induction f with
  | zero =>
    intro k n hk hn
    cases n with
    | zero => omega
    | succ n => exact br_t (nI_le (a := 100) (by omega) (by omega)) (br_t ((pk_lLE (a := 1) (by omega) (by omega)).mpr hx) K)
  | succ f ih =>
    intro k n hk hn
    cases n with
    | zero => omega
    | succ n => exact br_f (nI_ge (a := k) (b := 100) (by omega) (by omega)) (br_t ((pk_lLE (b := 0) (by omega) (by omega)).mpr (by omega)) (nm_r (nI_1 k) (ih (k + 1) n (by omega) (by omega))))
theorem cf_Y_com9 {post : Int64 → Prop} {v : Nat} (hv0 : 0 < v) (hv2 : v < 2 ^ 62) (K : post (lN v)) :
    ∀ (m n k x y : Nat), y < 2 ^ m → m ≤ 40 → x < 2 ^ 62 → k + 2 * m ≤ 100 → 100 < n + k → Nat.gcd y x = v → wY_common_9 post (nI N) g f_m f_a a_mm a_nx a_sh a_pk a_gd a_tp a_bt n (lN x) (lN y) (nI k) := by
  intro m
  induction m with
  | zero =>
    intro n k x y hy _ hx hk hn hv
    have e : y = 0 := by have h : y < 1 := hy
                         omega
    subst e
    rw [Nat.gcd_zero_left] at hv
    subst hv
    exact cf_Y_comz hv0 hv2 K (100 - k) k n (by omega) (by omega)
  | succ m ih =>
    intro n k x y hy hm hx hk hn hv
    by_cases e : y = 0
    · subst e
      rw [Nat.gcd_zero_left] at hv
      subst hv
      exact cf_Y_comz hv0 hv2 K (100 - k) k n (by omega) (by omega)
    · have h40 : (2 : Nat) ^ (m + 1) ≤ 2 ^ 40 := Nat.pow_le_pow_right (by decide) hm
      have hy62 : y < 2 ^ 62 := by omega
      cases n with
      | zero => omega
      | succ n =>
        have hn0 : ¬ lN y = 0 := fun h => e ((cf_lN0 hy62).mp h)
        have hnl : ¬ lN y ≤ 0 := fun h => by have := (pk_lLE (b := 0) (by omega) (by omega)).mp h; omega
        have h1 : x % y < y := Nat.mod_lt _ (by omega)
        refine br_f (nI_ge (a := k) (b := 100) (by omega) (by omega)) (br_f hnl (And.intro hn0 (nm_r (pk_lRem (by omega) (by omega) (by omega)) (nm_r (nI_1 k) ?_))))
        rw [Nat.gcd_rec] at hv
        by_cases h2 : x % y < 2 ^ m
        · exact ih n (k + 1) y (x % y) h2 (by omega) hy62 (by omega) (by omega) hv
        · have hp : 0 < 2 ^ m := Nat.pow_pos (by decide)
          have hps : (2 : Nat) ^ (m + 1) = 2 * 2 ^ m := by rw [Nat.pow_succ]; omega
          have e2 : ¬ lN (x % y) = 0 := fun h => by have := (cf_lN0 (by omega)).mp h; omega
          have e3 : ¬ lN (x % y) ≤ 0 := fun h => by have := (pk_lLE (b := 0) (by omega) (by omega)).mp h; omega
          cases n with
          | zero => omega
          | succ n =>
            have h3 : y % (x % y) < 2 ^ m := by
              have h4 : y % (x % y) = y - x % y := by
                rw [Nat.mod_eq_sub_mod (by omega), Nat.mod_eq_of_lt (by omega)]
              omega
            rw [Nat.gcd_rec] at hv
            refine br_f (nI_ge (a := k + 1) (b := 100) (by omega) (by omega)) (br_f e3 (And.intro e2 (nm_r (pk_lRem (by omega) (by omega) (by omega)) (nm_r (nI_1 (k + 1)) ?_))))
            exact ih n (k + 1 + 1) _ _ h3 (by omega) (by omega) (by omega) (by omega) hv
theorem cf_Y_common {post : Int64 → Prop} {a d : Nat} (ha : a < 2 ^ 30) (hd0 : 0 < d) (hd : d < 2 ^ 30) (K : post (lN (Nat.gcd a d))) : wpY_common post ((nI N), g, f_m, f_a, a_mm, a_nx, a_sh, a_pk, a_gd, a_tp, a_bt) (lN a) (lN d) := by
  have g0 : 0 < Nat.gcd a d := Nat.gcd_pos_of_pos_right a hd0
  have g1 : Nat.gcd a d ≤ d := Nat.gcd_le_right a hd0
  exact ⟨101, cf_Y_com9 g0 (by omega) K 30 _ 0 a d hd (by omega) (by omega) (by omega) (by omega) (Nat.gcd_comm d a)⟩
theorem cf_Y_top {post : Int64 → Prop} {a d : Nat} (ha : a < 2 ^ 30) (hd0 : 0 < d) (hd : d < 2 ^ 30) (K : post (lN (a / Nat.gcd a d))) : wpY_top post ((nI N), g, f_m, f_a, a_mm, a_nx, a_sh, a_pk, a_gd, a_tp, a_bt) (lN a) (lN d) := by
  have g0 : 0 < Nat.gcd a d := Nat.gcd_pos_of_pos_right a hd0
  have g1 : Nat.gcd a d ≤ d := Nat.gcd_le_right a hd0
  unfold wpY_top
  dsimp only
  refine cf_Y_common ha hd0 hd (br_t ((pk_lLE (a := 1) (by omega) (by omega)).mpr g0) (And.intro (fun h => by have := (cf_lN0 (by omega)).mp h; omega) ?_))
  rw [pk_lDiv (by omega) g0 (by omega)]; exact K
theorem cf_Y_bottom {post : Int64 → Prop} {a d : Nat} (ha : a < 2 ^ 30) (hd0 : 0 < d) (hd : d < 2 ^ 30) (K : post (lN (d / Nat.gcd a d))) : wpY_bottom post ((nI N), g, f_m, f_a, a_mm, a_nx, a_sh, a_pk, a_gd, a_tp, a_bt) (lN a) (lN d) := by
  have g0 : 0 < Nat.gcd a d := Nat.gcd_pos_of_pos_right a hd0
  have g1 : Nat.gcd a d ≤ d := Nat.gcd_le_right a hd0
  unfold wpY_bottom
  dsimp only
  refine cf_Y_common ha hd0 hd (br_t ((pk_lLE (a := 1) (by omega) (by omega)).mpr g0) (And.intro (fun h => by have := (cf_lN0 (by omega)).mp h; omega) ?_))
  rw [pk_lDiv (by omega) g0 (by omega)]; exact K
end
def cf_cmp (best : Bool) (a b : Nat) : Prop := if best = true then a ≤ b else b ≤ a
/-- x / y is the best (worst) chance of s over the plans F -/
def cf_BV (N : Nat) (g : Int32) (mm nx sh : Nat → Nat) (best : Bool) (F : Nat → Prop) (s x y : Nat) : Prop :=
  0 < y ∧ x ≤ 387420489 ∧ y ≤ 387420489 ∧ (∃ q, F q ∧ x * cf_dN N g mm nx sh q = cf_aN N g mm nx sh q s * y) ∧ ∀ q, F q → cf_cmp best (cf_aN N g mm nx sh q s * y) (x * cf_dN N g mm nx sh q)
theorem cf_cmp_tot (best : Bool) (a b : Nat) : cf_cmp best a b ∨ cf_cmp best b a := by
  cases best <;> unfold cf_cmp <;> simp <;> omega
theorem cf_cmp_eq (best : Bool) {a b : Nat} (h : a = b) : cf_cmp best a b := by
  cases best <;> unfold cf_cmp <;> simp <;> omega
theorem cf_cmp_anti {best : Bool} {a b : Nat} (h1 : cf_cmp best a b) (h2 : cf_cmp best b a) : a = b := by
  cases best <;> unfold cf_cmp at h1 h2 <;> simp at h1 h2 <;> omega
/-- a/y ≤ x/d, x/y ≤ p/o: a/o ≤ p/d, crosswise -/
theorem cf_cmp_tr {best : Bool} {A D x y p o : Nat} (hy : 0 < y) (h1 : cf_cmp best (A * y) (x * D)) (h2 : cf_cmp best (x * o) (p * y)) : cf_cmp best (A * o) (p * D) := by
  have e1 : A * y * o = A * o * y := by rw [Nat.mul_assoc, Nat.mul_comm y o, Nat.mul_assoc]
  have e2 : x * D * o = x * o * D := by rw [Nat.mul_assoc, Nat.mul_comm D o, Nat.mul_assoc]
  have e3 : p * y * D = p * D * y := by rw [Nat.mul_assoc, Nat.mul_comm y D, Nat.mul_assoc]
  cases best with
  | true =>
    unfold cf_cmp at *
    simp only [if_true] at *
    have h3 := Nat.mul_le_mul_right o h1
    have h4 := Nat.mul_le_mul_right D h2
    refine Nat.le_of_mul_le_mul_right (c := y) ?_ hy
    rw [← e1, ← e3]; exact Nat.le_trans h3 (e2 ▸ h4)
  | false =>
    unfold cf_cmp at *
    simp only [Bool.false_eq_true, if_false] at *
    have h3 := Nat.mul_le_mul_right o h1
    have h4 := Nat.mul_le_mul_right D h2
    refine Nat.le_of_mul_le_mul_right (c := y) ?_ hy
    rw [← e1, ← e3]; exact Nat.le_trans (e2 ▸ h4) h3
section
variable {N : Nat} {g : Int32} {mm nx sh : Nat → Nat} {best : Bool} {F : Nat → Prop} {s x y p tp bo : Nat}
theorem cf_BV_take (h : cf_BV N g mm nx sh best F s x y) (hr : tp * cf_dN N g mm nx sh p = cf_aN N g mm nx sh p s * bo) (h0 : 0 < bo) (h1 : tp ≤ 387420489) (h2 : bo ≤ 387420489) (hc : cf_cmp best (x * bo) (tp * y)) : cf_BV N g mm nx sh best (fun q => F q ∨ q = p) s tp bo := by
  refine ⟨h0, h1, h2, ⟨p, Or.inr rfl, hr⟩, fun q hq => ?_⟩
  rcases hq with hq | hq
  · exact cf_cmp_tr h.1 (h.2.2.2.2 q hq) hc
  · subst hq; exact cf_cmp_eq best hr.symm
theorem cf_BV_keep (h : cf_BV N g mm nx sh best F s x y) (hr : tp * cf_dN N g mm nx sh p = cf_aN N g mm nx sh p s * bo) (h0 : 0 < bo) (hc : cf_cmp best (tp * y) (x * bo)) : cf_BV N g mm nx sh best (fun q => F q ∨ q = p) s x y := by
  obtain ⟨a1, a2, a3, ⟨q0, hq0, e0⟩, a5⟩ := h
  refine ⟨a1, a2, a3, ⟨q0, Or.inl hq0, e0⟩, fun q hq => ?_⟩
  rcases hq with hq | hq
  · exact a5 q hq
  · subst hq
    exact cf_cmp_tr h0 (cf_cmp_eq best hr.symm) hc
theorem cf_BV_first (hF : ∀ q, ¬ F q) (hr : tp * cf_dN N g mm nx sh p = cf_aN N g mm nx sh p s * bo) (h0 : 0 < bo) (h1 : tp ≤ 387420489) (h2 : bo ≤ 387420489) : cf_BV N g mm nx sh best (fun q => F q ∨ q = p) s tp bo := by
  refine ⟨h0, h1, h2, ⟨p, Or.inr rfl, hr⟩, fun q hq => ?_⟩
  rcases hq with hq | hq
  · exact absurd hq (hF q)
  · subst hq; exact cf_cmp_eq best hr.symm
theorem cf_BV_ext {F' : Nat → Prop} (h : cf_BV N g mm nx sh best F s x y) (e : ∀ q, F q ↔ F' q) : cf_BV N g mm nx sh best F' s x y := by
  have e2 : F = F' := funext (fun q => propext (e q))
  rw [← e2]; exact h
/-- two best values are one value -/
theorem cf_BV_eq {x' y' : Nat} (W : cf_Wd N g mm nx sh) (h : cf_BV N g mm nx sh best F s x y) (h' : cf_BV N g mm nx sh best F s x' y') : x * y' = x' * y := by
  obtain ⟨a1, a2, a3, ⟨q, hq, e⟩, a5⟩ := h
  obtain ⟨b1, b2, b3, ⟨q', hq', e'⟩, b5⟩ := h'
  have d1 := (cf_dN_b (P := q) W).1
  have d2 := (cf_dN_b (P := q') W).1
  -- x/y = A/D, A/D ≤ x'/y'
  have h1 : cf_cmp best (x * y') (x' * y) := cf_cmp_tr d1 (cf_cmp_eq best e) (b5 q hq)
  have h2 : cf_cmp best (x' * y) (x * y') := cf_cmp_tr d2 (cf_cmp_eq best e') (a5 q' hq')
  exact cf_cmp_anti h1 h2
end
theorem cf_red_rep {a d : Nat} (hd : 0 < d) : (a / Nat.gcd a d) * d = a * (d / Nat.gcd a d) ∧ 0 < d / Nat.gcd a d ∧ Nat.gcd (a / Nat.gcd a d) (d / Nat.gcd a d) = 1 ∧ a / Nat.gcd a d ≤ a ∧ d / Nat.gcd a d ≤ d := by
  have g0 : 0 < Nat.gcd a d := Nat.gcd_pos_of_pos_right a hd
  have h1 := Nat.div_mul_cancel (Nat.gcd_dvd_left a d)
  have h2 := Nat.div_mul_cancel (Nat.gcd_dvd_right a d)
  refine ⟨?_, Nat.div_pos (Nat.gcd_le_right a hd) g0, Nat.gcd_div_gcd_div_gcd_of_pos_right hd, Nat.div_le_self _ _, Nat.div_le_self _ _⟩
  generalize hA : a / Nat.gcd a d = A at h1 ⊢
  generalize hB : d / Nat.gcd a d = B at h2 ⊢
  generalize hG : Nat.gcd a d = G at h1 h2
  rw [← h1, ← h2, Nat.mul_comm B G, Nat.mul_assoc]
theorem cf_red_eq {x y a d : Nat} (hg : Nat.gcd x y = 1) (hy : 0 < y) (hd : 0 < d) (h : x * d = a * y) : x = a / Nat.gcd a d ∧ y = d / Nat.gcd a d := by
  have h1 : y ∣ d := by
    have h2 : y ∣ x * d := ⟨a, by rw [h, Nat.mul_comm]⟩
    exact Nat.Coprime.dvd_of_dvd_mul_left (show Nat.gcd y x = 1 from (Nat.gcd_comm y x).trans hg) h2
  obtain ⟨k, hk⟩ := h1
  have hk0 : 0 < k := by
    rcases Nat.eq_zero_or_pos k with e | e
    · rw [e, Nat.mul_zero] at hk; omega
    · exact e
  have h3 : a = x * k := by
    rw [hk, Nat.mul_comm y k, ← Nat.mul_assoc] at h
    exact (Nat.eq_of_mul_eq_mul_right hy h).symm
  have h4 : Nat.gcd a d = k := by
    rw [h3, hk, Nat.gcd_mul_right, hg, Nat.one_mul]
  rw [h4, h3, hk, Nat.mul_div_cancel _ hk0, Nat.mul_div_cancel _ hk0]
  exact ⟨rfl, rfl⟩
end
section
/-! X: choosers, gather, refresh -/
def cf_XB (N : Nat) (g : Int32) (mm nx sh : Nat → Nat) (best : Bool) (F : Nat → Prop) (s : Nat) (v w : Int64) : Prop :=
  ∃ x y, v = lN x ∧ w = lN y ∧ Nat.gcd x y = 1 ∧ cf_BV N g mm nx sh best F s x y
def cf_Fp (N : Nat) (mm : Nat → Nat) (p q : Nat) : Prop := cf_fit N mm q ∧ q < p
section
variable {N : Nat} {g : Int32} {mm nx sh : Nat → Nat}
variable {f_c : Int32} {a_ac : Nat → Int32} {a_wc : Nat → Int32} {a_nx : Nat → Int32} {a_sh : Nat → Int32} {a_tb : Nat → Int64} {a_ro : Nat → Int32} {a_to : Nat → Int64} {a_bo : Nat → Int64} {a_bt : Nat → Int64} {a_bb : Nat → Int64} {a_wt : Nat → Int64} {a_wb : Nat → Int64}
theorem cf_XB_ext {best : Bool} {F F' : Nat → Prop} {s : Nat} {v w : Int64} (h : cf_XB N g mm nx sh best F s v w) (e : ∀ q, F q ↔ F' q) : cf_XB N g mm nx sh best F' s v w := by
  obtain ⟨x, y, h1, h2, h3, h4⟩ := h
  exact ⟨x, y, h1, h2, h3, cf_BV_ext h4 e⟩
theorem cf_b58 {a b : Nat} (ha : a ≤ 387420489) (hb : b ≤ 387420489) : a * b < 2 ^ 63 := by
  have := Nat.mul_le_mul ha hb
  omega
theorem cf_X_choosers (W : cf_Wd N g mm nx sh) (V : cf_XW mm nx sh a_ac a_wc a_nx a_sh) {post : Int32 → Prop} (K : post (cf_ch mm N)) : wpX_choosers post ((nI N), g, f_c, a_ac, a_wc, a_nx, a_sh, a_tb, a_ro, a_to, a_bo, a_bt, a_bb, a_wt, a_wb) := by
  have hN := W.2.1
  have key : ∀ d s n, s + d = N → d < n → wX_choosers_4 post (nI N) g f_c a_ac a_wc a_nx a_sh a_tb a_ro a_to a_bo a_bt a_bb a_wt a_wb n (cf_ch mm s) (nI s) := by
    intro d
    induction d with
    | zero =>
      intro s n hs hn
      cases n with
      | zero => omega
      | succ n =>
        have e : s = N := by omega
        subst e
        exact br_t (nI_le (by omega) (by omega)) K
    | succ d ih =>
      intro s n hs hn
      cases n with
      | zero => omega
      | succ n =>
        have ih' := ih (s + 1) n (by omega) (by omega)
        unfold cf_ch at ih'
        have e1 : a_ac (nI s).toNatClampNeg = nI (cf_aq mm s) := by rw [cf_c (by omega)]; exact V.2.2.1 s (by omega)
        refine br_f (nI_ge (by omega) (by omega)) (And.intro (cf_v (by omega)) ?_)
        by_cases h : 0 < mm (2 * s + 1)
        · rw [if_pos h] at ih'
          refine br_t ?_ (nm_r (e' := cf_ch mm s ||| cf_bit s) rfl (nm_r (nI_1 s) ih'))
          have h0 : ¬ mm (2 * s) = 0 := fun e => by have := W.2.2.2.2.2.2.2 s e; omega
          rw [e1]; unfold cf_aq; rw [if_neg h0, if_neg (by omega)]; rfl
        · rw [if_neg h] at ih'
          refine br_f ?_ (nm_r (cf_or0 _) (nm_r (nI_1 s) ih'))
          rw [e1]; unfold cf_aq
          by_cases h0 : mm (2 * s) = 0
          · rw [if_pos h0]; decide
          · rw [if_neg h0, if_pos (by omega)]; decide
  exact ⟨N + 1, key N 0 _ (by omega) (by omega)⟩
theorem cf_X_g58 (W : cf_Wd N g mm nx sh) {s p : Nat} (hs : s < N) (hT : cf_Tp N g mm nx sh p N a_to a_bo) {F : Nat → Prop} {fl : Int32}
    (hF : (fl = 1 ∧ ∀ q, ¬ F q) ∨ (fl = 0 ∧ cf_XB N g mm nx sh false F s (a_wt s) (a_wb s))) {post : SX → Prop}
    (K : ∀ a_wt' a_wb' : Nat → Int64, cf_XB N g mm nx sh false (fun q => F q ∨ q = p) s (a_wt' s) (a_wb' s) → (∀ j, j ≠ s → a_wt' j = a_wt j ∧ a_wb' j = a_wb j) → post ((nI N), g, f_c, a_ac, a_wc, a_nx, a_sh, a_tb, a_ro, a_to, a_bo, a_bt, a_bb, a_wt', a_wb')) :
    wX_gather_58 post (nI s) fl (nI N) g f_c a_ac a_wc a_nx a_sh a_tb a_ro a_to a_bo a_bt a_bb a_wt a_wb := by
  have hN := W.2.1
  have hc : (nI s).toNatClampNeg = s := cf_c (by omega)
  have hv : vp_in (nI s) 6 := cf_v (by omega)
  obtain ⟨t1, t2⟩ := hT s hs
  have hd := cf_dN_b (P := p) W
  have ha := cf_aN_b (P := p) W s
  obtain ⟨r1, r2, r3, r4, r5⟩ := cf_red_rep (a := cf_aN N g mm nx sh p s) hd.1
  generalize cf_aN N g mm nx sh p s / Nat.gcd (cf_aN N g mm nx sh p s) (cf_dN N g mm nx sh p) = tp at *
  generalize cf_dN N g mm nx sh p / Nat.gcd (cf_aN N g mm nx sh p s) (cf_dN N g mm nx sh p) = bo at *
  have tk : cf_BV N g mm nx sh false (fun q => F q ∨ q = p) s tp bo → wX_gather_92 post (nI s) (nI N) g f_c a_ac a_wc a_nx a_sh a_tb a_ro a_to a_bo a_bt a_bb a_wt a_wb := fun hb => by
    refine And.intro hv (And.intro hv (nm_r (e' := vp_updL a_wt s (a_to s)) (by rw [hc]) (And.intro hv (And.intro hv (nm_r (e' := vp_updL a_wb s (a_bo s)) (by rw [hc]) (K _ _ ?_ ?_))))))
    · exact ⟨tp, bo, pk_uLs.trans t1, pk_uLs.trans t2, r3, hb⟩
    · exact fun j hj => ⟨pk_uLn hj, pk_uLn hj⟩
  rcases hF with ⟨e1, e2⟩ | ⟨e1, e2⟩
  · subst e1
    exact br_f (by decide) (tk (cf_BV_first e2 r1 r2 (by omega) (by omega)))
  · subst e1
    obtain ⟨x, y, x1, x2, x3, x4⟩ := e2
    have b1 := cf_b58 x4.2.1 (show bo ≤ 387420489 by omega)
    have b2 := cf_b58 (show tp ≤ 387420489 by omega) x4.2.2.1
    refine br_t rfl (And.intro hv (And.intro hv (And.intro hv (And.intro hv ?_))))
    rw [hc, x1, x2, t1, t2, lN_mul, lN_mul]
    by_cases h : x * bo ≤ tp * y
    · refine br_t ((pk_lLE b1 b2).mpr h) (K a_wt a_wb ⟨x, y, x1, x2, x3, cf_BV_keep x4 r1 r2 ?_⟩ (fun j _ => ⟨rfl, rfl⟩))
      show cf_cmp false (tp * y) (x * bo)
      unfold cf_cmp; rw [if_neg (by decide)]; exact h
    · refine br_f (fun e => h ((pk_lLE b1 b2).mp e)) (tk (cf_BV_take x4 r1 r2 (by omega) (by omega) ?_))
      unfold cf_cmp; rw [if_neg (by decide)]; omega
theorem cf_X_gather (W : cf_Wd N g mm nx sh) {s p : Nat} (hs : s < N) (hT : cf_Tp N g mm nx sh p N a_to a_bo) {F : Nat → Prop} {fl : Int32}
    (hF : (fl = 1 ∧ ∀ q, ¬ F q) ∨ (fl = 0 ∧ cf_XB N g mm nx sh true F s (a_bt s) (a_bb s) ∧ cf_XB N g mm nx sh false F s (a_wt s) (a_wb s))) {post : SX → Prop}
    (K : ∀ a_bt' a_bb' a_wt' a_wb' : Nat → Int64, cf_XB N g mm nx sh true (fun q => F q ∨ q = p) s (a_bt' s) (a_bb' s) → cf_XB N g mm nx sh false (fun q => F q ∨ q = p) s (a_wt' s) (a_wb' s) → (∀ j, j ≠ s → a_bt' j = a_bt j ∧ a_bb' j = a_bb j ∧ a_wt' j = a_wt j ∧ a_wb' j = a_wb j) → post ((nI N), g, f_c, a_ac, a_wc, a_nx, a_sh, a_tb, a_ro, a_to, a_bo, a_bt', a_bb', a_wt', a_wb')) :
    wpX_gather post ((nI N), g, f_c, a_ac, a_wc, a_nx, a_sh, a_tb, a_ro, a_to, a_bo, a_bt, a_bb, a_wt, a_wb) (nI s) fl := by
  have hN := W.2.1
  have hc : (nI s).toNatClampNeg = s := cf_c (by omega)
  have hv : vp_in (nI s) 6 := cf_v (by omega)
  obtain ⟨t1, t2⟩ := hT s hs
  have hd := cf_dN_b (P := p) W
  have ha := cf_aN_b (P := p) W s
  obtain ⟨r1, r2, r3, r4, r5⟩ := cf_red_rep (a := cf_aN N g mm nx sh p s) hd.1
  have tk : cf_BV N g mm nx sh true (fun q => F q ∨ q = p) s (cf_aN N g mm nx sh p s / Nat.gcd (cf_aN N g mm nx sh p s) (cf_dN N g mm nx sh p)) (cf_dN N g mm nx sh p / Nat.gcd (cf_aN N g mm nx sh p s) (cf_dN N g mm nx sh p)) → wX_gather_34 post (nI s) fl (nI N) g f_c a_ac a_wc a_nx a_sh a_tb a_ro a_to a_bo a_bt a_bb a_wt a_wb := fun hb => by
    refine And.intro hv (And.intro hv (nm_r (e' := vp_updL a_bt s (a_to s)) (by rw [hc]) (And.intro hv (And.intro hv (nm_r (e' := vp_updL a_bb s (a_bo s)) (by rw [hc]) ?_)))))
    refine cf_X_g58 W hs hT (hF.imp id (fun e => ⟨e.1, e.2.2⟩)) (fun a_wt' a_wb' h1 h2 => K _ _ _ _ ?_ h1 ?_)
    · exact ⟨_, _, pk_uLs.trans t1, pk_uLs.trans t2, r3, hb⟩
    · exact fun j hj => ⟨pk_uLn hj, pk_uLn hj, (h2 j hj).1, (h2 j hj).2⟩
  rcases hF with ⟨e1, e2⟩ | ⟨e1, e2, e3⟩
  · subst e1
    exact br_f (by decide) (tk (cf_BV_first e2 r1 r2 (by omega) (by omega)))
  · subst e1
    obtain ⟨x, y, x1, x2, x3, x4⟩ := e2
    generalize cf_aN N g mm nx sh p s / Nat.gcd (cf_aN N g mm nx sh p s) (cf_dN N g mm nx sh p) = tp at *
    generalize cf_dN N g mm nx sh p / Nat.gcd (cf_aN N g mm nx sh p s) (cf_dN N g mm nx sh p) = bo at *
    have b1 := cf_b58 x4.2.1 (show bo ≤ 387420489 by omega)
    have b2 := cf_b58 (show tp ≤ 387420489 by omega) x4.2.2.1
    refine br_t rfl (And.intro hv (And.intro hv (And.intro hv (And.intro hv ?_))))
    rw [hc, x1, x2, t1, t2, lN_mul, lN_mul]
    by_cases h : tp * y ≤ x * bo
    · refine br_t ((pk_lLE b2 b1).mpr h) ?_
      refine cf_X_g58 W hs hT (Or.inr ⟨rfl, e3⟩) (fun a_wt' a_wb' h1 h2 => K a_bt a_bb _ _ ⟨x, y, x1, x2, x3, cf_BV_keep x4 r1 r2 ?_⟩ h1 (fun j hj => ⟨rfl, rfl, (h2 j hj).1, (h2 j hj).2⟩))
      unfold cf_cmp; rw [if_pos rfl]; exact h
    · refine br_f (fun e => h ((pk_lLE b2 b1).mp e)) (tk (cf_BV_take x4 r1 r2 (by omega) (by omega) ?_))
      unfold cf_cmp; rw [if_pos rfl]; omega
theorem cf_X_r48 (W : cf_Wd N g mm nx sh) {p : Nat} (hT : cf_Tp N g mm nx sh p N a_to a_bo) {F : Nat → Prop} {fl x1 : Int32} {post : SX → Prop} {J22 : Int32 → Int32 → Int32 → Int32 → Int32 → (Nat → Int32) → (Nat → Int32) → (Nat → Int32) → (Nat → Int32) → (Nat → Int64) → (Nat → Int32) → (Nat → Int64) → (Nat → Int64) → (Nat → Int64) → (Nat → Int64) → (Nat → Int64) → (Nat → Int64) → Prop}
    (K : ∀ a_bt' a_bb' a_wt' a_wb' : Nat → Int64, (∀ s, s < N → cf_XB N g mm nx sh true (fun q => F q ∨ q = p) s (a_bt' s) (a_bb' s) ∧ cf_XB N g mm nx sh false (fun q => F q ∨ q = p) s (a_wt' s) (a_wb' s)) → J22 0 (nI (p + 1)) (nI N) g f_c a_ac a_wc a_nx a_sh a_tb a_ro a_to a_bo a_bt' a_bb' a_wt' a_wb') :
    ∀ (d s n : Nat) (a_bt a_bb a_wt a_wb : Nat → Int64), s + d = N → d < n → (∀ x, x < s → cf_XB N g mm nx sh true (fun q => F q ∨ q = p) x (a_bt x) (a_bb x) ∧ cf_XB N g mm nx sh false (fun q => F q ∨ q = p) x (a_wt x) (a_wb x)) →
      (∀ x, s ≤ x → x < N → (fl = 1 ∧ ∀ q, ¬ F q) ∨ (fl = 0 ∧ cf_XB N g mm nx sh true F x (a_bt x) (a_bb x) ∧ cf_XB N g mm nx sh false F x (a_wt x) (a_wb x))) →
      wX_refresh_48 post J22 x1 fl (nI p) n (nI s) (nI N) g f_c a_ac a_wc a_nx a_sh a_tb a_ro a_to a_bo a_bt a_bb a_wt a_wb := by
  have hN := W.2.1
  intro d
  induction d with
  | zero =>
    intro s n a_bt a_bb a_wt a_wb hs hn h1 h2
    cases n with
    | zero => omega
    | succ n => exact br_t (nI_le (by omega) (by omega)) (nm_r (nI_1 p) (K a_bt a_bb a_wt a_wb (fun x hx => h1 x (by omega))))
  | succ d ih =>
    intro s n a_bt a_bb a_wt a_wb hs hn h1 h2
    cases n with
    | zero => omega
    | succ n =>
      refine br_f (nI_ge (by omega) (by omega)) (cf_X_gather W (by omega) hT (h2 s (by omega) (by omega)) (fun a_bt' a_bb' a_wt' a_wb' k1 k2 k3 => ?_))
      refine nm_r (nI_1 s) (ih (s + 1) n _ _ _ _ (by omega) (by omega) (fun x hx => ?_) (fun x hx hx' => ?_))
      · by_cases e : x = s
        · subst e; exact ⟨k1, k2⟩
        · obtain ⟨c1, c2, c3, c4⟩ := k3 x e
          rw [c1, c2, c3, c4]; exact h1 x (by omega)
      · obtain ⟨c1, c2, c3, c4⟩ := k3 x (by omega)
        rw [c1, c2, c3, c4]; exact h2 x (by omega) hx'
theorem cf_Fp_s {p : Nat} (h : cf_fit N mm p) (q : Nat) : (cf_Fp N mm p q ∨ q = p) ↔ cf_Fp N mm (p + 1) q := by
  unfold cf_Fp
  constructor
  · rintro (h1 | h1)
    · exact ⟨h1.1, by omega⟩
    · subst h1; exact ⟨h, by omega⟩
  · intro h1
    by_cases e : q = p
    · exact Or.inr e
    · exact Or.inl ⟨h1.1, by omega⟩
theorem cf_Fp_n {p : Nat} (h : ¬ cf_fit N mm p) (q : Nat) : cf_Fp N mm p q ↔ cf_Fp N mm (p + 1) q := by
  unfold cf_Fp
  constructor
  · intro h1; exact ⟨h1.1, by omega⟩
  · intro h1
    by_cases e : q = p
    · subst e; exact absurd h1.1 h
    · exact ⟨h1.1, by omega⟩
theorem cf_Fp_e (q : Nat) : cf_Fp N mm (2 ^ N) q ↔ cf_fit N mm q := ⟨fun h => h.1, fun h => ⟨h, h.1⟩⟩
theorem cf_fit_0 : cf_fit N mm 0 := ⟨Nat.pow_pos (by decide), fun s hs => by rw [Nat.zero_testBit] at hs; exact absurd hs (by decide)⟩
/-- the gathered chances -/
def cf_XR (N : Nat) (g : Int32) (mm nx sh : Nat → Nat) (F : Nat → Prop) (a_bt a_bb a_wt a_wb : Nat → Int64) : Prop :=
  ∀ s, s < N → cf_XB N g mm nx sh true F s (a_bt s) (a_bb s) ∧ cf_XB N g mm nx sh false F s (a_wt s) (a_wb s)
theorem cf_X_r22 (W : cf_Wd N g mm nx sh) (V : cf_XW mm nx sh a_ac a_wc a_nx a_sh) {post : SX → Prop}
    (K : ∀ (a_tb' : Nat → Int64) (a_ro' : Nat → Int32) (a_to' a_bo' a_bt' a_bb' a_wt' a_wb' : Nat → Int64), cf_XR N g mm nx sh (cf_fit N mm) a_bt' a_bb' a_wt' a_wb' → post ((nI N), g, f_c, a_ac, a_wc, a_nx, a_sh, a_tb', a_ro', a_to', a_bo', a_bt', a_bb', a_wt', a_wb')) :
    ∀ (d p n : Nat) (a_tb : Nat → Int64) (a_ro : Nat → Int32) (a_to a_bo a_bt a_bb a_wt a_wb : Nat → Int64) (fl : Int32), p + d = 2 ^ N → d < n → fl = (if p = 0 then 1 else 0) → (0 < p → cf_XR N g mm nx sh (cf_Fp N mm p) a_bt a_bb a_wt a_wb) →
      wX_refresh_22 post (cf_ch mm N) n fl (nI p) (nI N) g f_c a_ac a_wc a_nx a_sh a_tb a_ro a_to a_bo a_bt a_bb a_wt a_wb := by
  have hN := W.2.1
  have h64 : (2 : Nat) ^ N ≤ 2 ^ 6 := Nat.pow_le_pow_right (by decide) hN
  have h1N := cf_1N N (by omega)
  intro d
  induction d with
  | zero =>
    intro p n a_tb a_ro a_to a_bo a_bt a_bb a_wt a_wb fl hp hn hfl h
    cases n with
    | zero => omega
    | succ n =>
      have e : p = 2 ^ N := by omega
      have h0 : 0 < 2 ^ N := Nat.pow_pos (by decide)
      subst e
      refine br_t (by rw [h1N]; exact nI_le (by omega) (by omega)) (K _ _ _ _ _ _ _ _ (fun s hs => ?_))
      have h2 := h h0 s hs
      exact ⟨cf_XB_ext h2.1 cf_Fp_e, cf_XB_ext h2.2 cf_Fp_e⟩
  | succ d ih =>
    intro p n a_tb a_ro a_to a_bo a_bt a_bb a_wt a_wb fl hp hn hfl h
    cases n with
    | zero => omega
    | succ n =>
      refine br_f (by rw [h1N]; exact nI_ge (by omega) (by omega)) ?_
      by_cases hf : cf_fit N mm p
      · refine br_t ((cf_mk0 _ _).mpr ((cf_fit_ch hN (by omega)).mp hf)) (cf_X_solve W V (by omega) (fun a_tb' a_ro' a_to' a_bo' hT => ⟨N + 1, ?_⟩))
        refine cf_X_r48 (F := cf_Fp N mm p) (J22 := wX_refresh_22 post (cf_ch mm N) n) W hT (fun a_bt' a_bb' a_wt' a_wb' hb => ?_) N 0 _ a_bt a_bb a_wt a_wb (by omega) (by omega) (fun x hx => by omega) (fun x _ hx => ?_)
        · refine ih (p + 1) n _ _ _ _ _ _ _ _ 0 (by omega) (by omega) (by rw [if_neg (by omega)]) (fun _ s hs => ?_)
          have h2 := hb s hs
          exact ⟨cf_XB_ext h2.1 (cf_Fp_s hf), cf_XB_ext h2.2 (cf_Fp_s hf)⟩
        · by_cases e : p = 0
          · subst e
            exact Or.inl ⟨hfl, fun q hq => by have := hq.2; omega⟩
          · rw [if_neg e] at hfl
            exact Or.inr ⟨hfl, h (by omega) x hx⟩
      · have e : p ≠ 0 := fun e => hf (e ▸ cf_fit_0)
        refine br_f (fun e2 => hf ((cf_fit_ch hN (by omega)).mpr ((cf_mk0 _ _).mp e2))) (nm_r (nI_1 p) (ih (p + 1) n _ _ _ _ _ _ _ _ fl (by omega) (by omega) (by rw [hfl, if_neg e, if_neg (by omega)]) (fun _ s hs => ?_)))
        have h2 := h (by omega) s hs
        exact ⟨cf_XB_ext h2.1 (cf_Fp_n hf), cf_XB_ext h2.2 (cf_Fp_n hf)⟩
theorem cf_X_refresh (W : cf_Wd N g mm nx sh) (V : cf_XW mm nx sh a_ac a_wc a_nx a_sh) (hcur : f_c = 0 ∨ cf_XR N g mm nx sh (cf_fit N mm) a_bt a_bb a_wt a_wb) {post : SX → Prop}
    (K : ∀ (f_c' : Int32) (a_tb' : Nat → Int64) (a_ro' : Nat → Int32) (a_to' a_bo' a_bt' a_bb' a_wt' a_wb' : Nat → Int64), cf_XR N g mm nx sh (cf_fit N mm) a_bt' a_bb' a_wt' a_wb' → post ((nI N), g, f_c', a_ac, a_wc, a_nx, a_sh, a_tb', a_ro', a_to', a_bo', a_bt', a_bb', a_wt', a_wb')) :
    wpX_refresh post ((nI N), g, f_c, a_ac, a_wc, a_nx, a_sh, a_tb, a_ro, a_to, a_bo, a_bt, a_bb, a_wt, a_wb) := by
  have h64 : (2 : Nat) ^ N ≤ 2 ^ 6 := Nat.pow_le_pow_right (by decide) W.2.1
  by_cases hc : f_c = 0
  · refine br_t hc (cf_X_choosers W V ⟨2 ^ N + 1, ?_⟩)
    exact cf_X_r22 W V (fun a_tb' a_ro' a_to' a_bo' a_bt' a_bb' a_wt' a_wb' h => K 1 _ _ _ _ _ _ _ _ h) (2 ^ N) 0 _ a_tb a_ro a_to a_bo a_bt a_bb a_wt a_wb 1 (by omega) (by omega) rfl (fun h => by omega)
  · exact br_f hc (K f_c a_tb a_ro a_to a_bo a_bt a_bb a_wt a_wb (hcur.resolve_left hc))
end
end
section
/-! Y: twofold, take, tryPlan, gather -/
def cf_YB (N : Nat) (g : Int32) (mm nx sh : Nat → Nat) (best : Bool) (F : Nat → Prop) (s : Nat) (v w : Int64) : Prop :=
  ∃ x y, v = lN x ∧ w = lN y ∧ cf_BV N g mm nx sh best F s x y
def cf_YR (N : Nat) (g : Int32) (mm nx sh : Nat → Nat) (best : Bool) (F : Nat → Prop) (a_tp a_bt : Nat → Int64) : Prop := ∀ s, s < N → cf_YB N g mm nx sh best F s (a_tp s) (a_bt s)
section
variable {N : Nat} {g : Int32} {mm nx sh : Nat → Nat}
variable {f_m : Int32} {f_a : Int64} {a_mm : Nat → Int32} {a_nx : Nat → Int32} {a_sh : Nat → Int32} {a_pk : Nat → Int32} {a_gd : Nat → Int64} {a_tp : Nat → Int64} {a_bt : Nat → Int64}
theorem cf_YB_ext {best : Bool} {F F' : Nat → Prop} {s : Nat} {v w : Int64} (h : cf_YB N g mm nx sh best F s v w) (e : ∀ q, F q ↔ F' q) : cf_YB N g mm nx sh best F' s v w := by
  obtain ⟨x, y, h1, h2, h4⟩ := h
  exact ⟨x, y, h1, h2, cf_BV_ext h4 e⟩
theorem cf_Y_twofold (W : cf_Wd N g mm nx sh) (V : cf_YW mm nx sh a_mm a_nx a_sh) {post : Int32 → Prop} (K : post (cf_ch mm N)) : wpY_twofold post ((nI N), g, f_m, f_a, a_mm, a_nx, a_sh, a_pk, a_gd, a_tp, a_bt) := by
  have hN := W.2.1
  have key : ∀ d s n, s + d = N → d < n → wY_twofold_4 post (nI N) g f_m f_a a_mm a_nx a_sh a_pk a_gd a_tp a_bt n (cf_ch mm s) (nI s) := by
    intro d
    induction d with
    | zero =>
      intro s n hs hn
      cases n with
      | zero => omega
      | succ n =>
        have e : s = N := by omega
        subst e
        exact br_t (nI_le (by omega) (by omega)) K
    | succ d ih =>
      intro s n hs hn
      cases n with
      | zero => omega
      | succ n =>
        have ih' := ih (s + 1) n (by omega) (by omega)
        unfold cf_ch at ih'
        have h3 := W.2.2.2.1 (2 * s + 1)
        have e1 : a_mm ((2 * nI s) + 1).toNatClampNeg = nI (mm (2 * s + 1)) := by rw [cf_i21, cf_c (by omega)]; exact V.1 _
        refine br_f (nI_ge (by omega) (by omega)) (br_f (nI_ge (a := s) (b := 6) (by omega) (by omega)) (And.intro (by rw [cf_i21]; exact cf_v (by omega)) ?_))
        rw [e1]
        by_cases h : 0 < mm (2 * s + 1)
        · rw [if_pos h] at ih'
          exact br_f (nI_nle h (by omega)) (nm_r (e' := cf_ch mm s ||| cf_bit s) rfl (nm_r (nI_1 s) ih'))
        · rw [if_neg h] at ih'
          exact br_t (nI_le (b := 0) (by omega) (by omega)) (nm_r (nI_1 s) ih')
  exact ⟨N + 1, key N 0 _ (by omega) (by omega)⟩
theorem cf_Y_take (W : cf_Wd N g mm nx sh) {s p : Nat} (hs : s < N) (hA : a_gd s = lN (cf_aN N g mm nx sh p s)) (hD : f_a = lN (cf_dN N g mm nx sh p)) {best : Bool} {F : Nat → Prop} {fb fl : Int32} (hb : fb = if best = true then 1 else 0)
    (hF : (fl = 1 ∧ ∀ q, ¬ F q) ∨ (fl = 0 ∧ cf_YB N g mm nx sh best F s (a_tp s) (a_bt s))) {post : SY → Prop}
    (K : ∀ a_tp' a_bt' : Nat → Int64, cf_YB N g mm nx sh best (fun q => F q ∨ q = p) s (a_tp' s) (a_bt' s) → (∀ j, j ≠ s → a_tp' j = a_tp j ∧ a_bt' j = a_bt j) → post ((nI N), g, f_m, f_a, a_mm, a_nx, a_sh, a_pk, a_gd, a_tp', a_bt')) :
    wpY_take post ((nI N), g, f_m, f_a, a_mm, a_nx, a_sh, a_pk, a_gd, a_tp, a_bt) (nI s) fb fl := by
  have hN := W.2.1
  have hc : (nI s).toNatClampNeg = s := cf_c (by omega)
  have hv : vp_in (nI s) 6 := cf_v (by omega)
  have hd := cf_dN_b (P := p) W
  have ha := cf_aN_b (P := p) W s
  have tk : cf_BV N g mm nx sh best (fun q => F q ∨ q = p) s (cf_aN N g mm nx sh p s) (cf_dN N g mm nx sh p) → wY_take_55 post (nI s) (nI N) g f_m f_a a_mm a_nx a_sh a_pk a_gd a_tp a_bt := fun hbv => by
    refine And.intro hv (And.intro hv (nm_r (e' := vp_updL a_tp s (a_gd s)) (by rw [hc]) (And.intro hv (nm_r (e' := vp_updL a_bt s f_a) (by rw [hc]) (K _ _ ?_ ?_)))))
    · exact ⟨_, _, pk_uLs.trans hA, pk_uLs.trans hD, hbv⟩
    · exact fun j hj => ⟨pk_uLn hj, pk_uLn hj⟩
  rcases hF with ⟨e1, e2⟩ | ⟨e1, e2⟩
  · subst e1
    exact And.intro hv (And.intro hv (nm_e (And.intro hv (nm_e (br_f (by decide) (tk (cf_BV_first e2 rfl hd.1 ha hd.2)))))))
  · subst e1
    obtain ⟨x, y, x1, x2, x4⟩ := e2
    have b1 := cf_b58 x4.2.1 hd.2
    have b2 := cf_b58 ha x4.2.2.1
    refine And.intro hv (And.intro hv (nm_r (e' := lN (cf_aN N g mm nx sh p s * y)) (by rw [hc, hA, x2, lN_mul]) (And.intro hv (nm_r (e' := lN (x * cf_dN N g mm nx sh p)) (by rw [hc, x1, hD, lN_mul]) (br_t rfl ?_)))))
    cases best with
    | true =>
      rw [if_pos rfl] at hb
      subst hb
      refine br_f (by decide) ?_
      by_cases h : cf_aN N g mm nx sh p s * y ≤ x * cf_dN N g mm nx sh p
      · refine br_t ((pk_lLE b2 b1).mpr h) (K a_tp a_bt ⟨x, y, x1, x2, cf_BV_keep x4 rfl hd.1 ?_⟩ (fun j _ => ⟨rfl, rfl⟩))
        unfold cf_cmp; rw [if_pos rfl]; exact h
      · refine br_f (fun e => h ((pk_lLE b2 b1).mp e)) (tk (cf_BV_take x4 rfl hd.1 ha hd.2 ?_))
        unfold cf_cmp; rw [if_pos rfl]; omega
    | false =>
      rw [if_neg (by decide)] at hb
      subst hb
      refine br_t rfl ?_
      by_cases h : x * cf_dN N g mm nx sh p ≤ cf_aN N g mm nx sh p s * y
      · refine br_t ((pk_lLE b1 b2).mpr h) (K a_tp a_bt ⟨x, y, x1, x2, cf_BV_keep x4 rfl hd.1 ?_⟩ (fun j _ => ⟨rfl, rfl⟩))
        unfold cf_cmp; rw [if_neg (by decide)]; exact h
      · refine br_f (fun e => h ((pk_lLE b1 b2).mp e)) (tk (cf_BV_take x4 rfl hd.1 ha hd.2 ?_))
        unfold cf_cmp; rw [if_neg (by decide)]; omega
theorem cf_Y_t7 (W : cf_Wd N g mm nx sh) {p : Nat} (hp : p < 64) (hA : ∀ s, s < N → a_gd s = lN (cf_aN N g mm nx sh p s)) (hD : f_a = lN (cf_dN N g mm nx sh p)) {best : Bool} {F : Nat → Prop} {fb : Int32} (hb : fb = if best = true then 1 else 0) {post : SY → Prop}
    (K : ∀ a_tp' a_bt' : Nat → Int64, cf_YR N g mm nx sh best (fun q => F q ∨ q = p) a_tp' a_bt' → post ((nI N), g, f_m, f_a, a_mm, a_nx, a_sh, a_pk, a_gd, a_tp', a_bt')) :
    ∀ (d s n : Nat) (a_tp a_bt : Nat → Int64), s + d = N → d < n → (∀ x, x < s → cf_YB N g mm nx sh best (fun q => F q ∨ q = p) x (a_tp x) (a_bt x)) →
      (∀ x, s ≤ x → x < N → (p = 0 ∧ ∀ q, ¬ F q) ∨ (p ≠ 0 ∧ cf_YB N g mm nx sh best F x (a_tp x) (a_bt x))) →
      wY_tryPlan_7 post (nI p) fb n (nI s) (nI N) g f_m f_a a_mm a_nx a_sh a_pk a_gd a_tp a_bt := by
  have hN := W.2.1
  intro d
  induction d with
  | zero =>
    intro s n a_tp a_bt hs hn h1 h2
    cases n with
    | zero => omega
    | succ n => exact br_t (nI_le (by omega) (by omega)) (K a_tp a_bt (fun x hx => h1 x (by omega)))
  | succ d ih =>
    intro s n a_tp a_bt hs hn h1 h2
    cases n with
    | zero => omega
    | succ n =>
      have go : ∀ fl : Int32, ((fl = 1 ∧ ∀ q, ¬ F q) ∨ (fl = 0 ∧ cf_YB N g mm nx sh best F s (a_tp s) (a_bt s))) → wY_tryPlan_33 post (wY_tryPlan_7 post (nI p) fb n) (nI p) fb (nI s) fl fb (nI s) (nI N) g f_m f_a a_mm a_nx a_sh a_pk a_gd a_tp a_bt := fun fl hfl => by
        unfold wY_tryPlan_33
        refine cf_Y_take W (by omega) (hA s (by omega)) hD hb hfl (fun a_tp' a_bt' k1 k3 => ?_)
        refine nm_r (nI_1 s) (ih (s + 1) n _ _ (by omega) (by omega) (fun x hx => ?_) (fun x hx hx' => ?_))
        · by_cases e : x = s
          · subst e; exact k1
          · obtain ⟨c1, c2⟩ := k3 x e
            rw [c1, c2]; exact h1 x (by omega)
        · obtain ⟨c1, c2⟩ := k3 x (by omega)
          rw [c1, c2]; exact h2 x (by omega) hx'
      refine br_f (nI_ge (by omega) (by omega)) (br_f (nI_ge (a := s) (b := 6) (by omega) (by omega)) ?_)
      rcases h2 s (by omega) (by omega) with ⟨e1, e2⟩ | ⟨e1, e2⟩
      · exact br_t (congrArg nI e1) (go 1 (Or.inl ⟨rfl, e2⟩))
      · exact br_f (nI_ne0 (by omega) (by omega)) (go 0 (Or.inr ⟨rfl, e2⟩))
theorem cf_Y_g7 (W : cf_Wd N g mm nx sh) (V : cf_YW mm nx sh a_mm a_nx a_sh) {best : Bool} {fb : Int32} (hb : fb = if best = true then 1 else 0) {post : SY → Prop}
    (K : ∀ (f_m' : Int32) (f_a' : Int64) (a_pk' : Nat → Int32) (a_gd' a_tp' a_bt' : Nat → Int64), cf_YR N g mm nx sh best (cf_fit N mm) a_tp' a_bt' → post ((nI N), g, f_m', f_a', a_mm, a_nx, a_sh, a_pk', a_gd', a_tp', a_bt')) :
    ∀ (d p n : Nat) (f_m : Int32) (f_a : Int64) (a_pk : Nat → Int32) (a_gd a_tp a_bt : Nat → Int64), p + d = 2 ^ N → d < n → (0 < p → cf_YR N g mm nx sh best (cf_Fp N mm p) a_tp a_bt) →
      wY_gather_7 post fb (cf_ch mm N) n (nI p) (nI N) g f_m f_a a_mm a_nx a_sh a_pk a_gd a_tp a_bt := by
  have hN := W.2.1
  have h64 : (2 : Nat) ^ N ≤ 2 ^ 6 := Nat.pow_le_pow_right (by decide) hN
  have h1N := cf_1N N (by omega)
  intro d
  induction d with
  | zero =>
    intro p n f_m f_a a_pk a_gd a_tp a_bt hp hn h
    cases n with
    | zero => omega
    | succ n =>
      have e : p = 2 ^ N := by omega
      have h0 : 0 < 2 ^ N := Nat.pow_pos (by decide)
      subst e
      exact br_t (by rw [h1N]; exact nI_le (by omega) (by omega)) (K _ _ _ _ _ _ (fun s hs => cf_YB_ext (h h0 s hs) cf_Fp_e))
  | succ d ih =>
    intro p n f_m f_a a_pk a_gd a_tp a_bt hp hn h
    cases n with
    | zero => omega
    | succ n =>
      refine br_f (by rw [h1N]; exact nI_ge (by omega) (by omega)) ?_
      by_cases hf : cf_fit N mm p
      · refine br_t ((cf_mk1 _ _).mpr ((cf_fit_ch hN (by omega)).mp hf)) ?_
        unfold wpY_tryPlan
        dsimp only
        refine cf_Y_work W V (by omega) (fun f_m' a_pk' a_gd' hA => ⟨N + 1, ?_⟩)
        refine cf_Y_t7 (F := cf_Fp N mm p) W (by omega) hA rfl hb (fun a_tp' a_bt' hr => ?_) N 0 _ a_tp a_bt (by omega) (by omega) (fun x hx => by omega) (fun x _ hx => ?_)
        · exact nm_r (nI_1 p) (ih (p + 1) n _ _ _ _ _ _ (by omega) (by omega) (fun _ s hs => cf_YB_ext (hr s hs) (cf_Fp_s hf)))
        · by_cases e : p = 0
          · subst e
            exact Or.inl ⟨rfl, fun q hq => by have := hq.2; omega⟩
          · exact Or.inr ⟨e, h (by omega) x hx⟩
      · have e : p ≠ 0 := fun e => hf (e ▸ cf_fit_0)
        exact br_f (fun e2 => hf ((cf_fit_ch hN (by omega)).mpr ((cf_mk1 _ _).mp e2))) (nm_r (nI_1 p) (ih (p + 1) n _ _ _ _ _ _ (by omega) (by omega) (fun _ s hs => cf_YB_ext (h (by omega) s hs) (cf_Fp_n hf))))
theorem cf_Y_gather (W : cf_Wd N g mm nx sh) (V : cf_YW mm nx sh a_mm a_nx a_sh) {fb : Int32} (best : Bool) (hb : fb = if best = true then 1 else 0) {post : SY → Prop}
    (K : ∀ (f_m' : Int32) (f_a' : Int64) (a_pk' : Nat → Int32) (a_gd' a_tp' a_bt' : Nat → Int64), cf_YR N g mm nx sh best (cf_fit N mm) a_tp' a_bt' → post ((nI N), g, f_m', f_a', a_mm, a_nx, a_sh, a_pk', a_gd', a_tp', a_bt')) :
    wpY_gather post ((nI N), g, f_m, f_a, a_mm, a_nx, a_sh, a_pk, a_gd, a_tp, a_bt) fb := by
  have h64 : (2 : Nat) ^ N ≤ 2 ^ 6 := Nat.pow_le_pow_right (by decide) W.2.1
  unfold wpY_gather
  dsimp only
  refine cf_Y_twofold W V ⟨2 ^ N + 1, ?_⟩
  exact cf_Y_g7 W V hb K (2 ^ N) 0 _ f_m f_a a_pk a_gd a_tp a_bt (by omega) (by omega) (fun h => by omega)
end
end
section
/-! the relation, and the methods that hold no chances -/
def i_Rel (_ : Nat) (u : SX) (v : SY) : Prop :=
  ∃ (N : Nat) (mm nx sh : Nat → Nat), u.1 = nI N ∧ v.1 = nI N ∧ v.2.1 = u.2.1 ∧ cf_Wd N u.2.1 mm nx sh
    ∧ cf_XW mm nx sh u.2.2.2.1 u.2.2.2.2.1 u.2.2.2.2.2.1 u.2.2.2.2.2.2.1
    ∧ cf_YW mm nx sh v.2.2.2.2.1 v.2.2.2.2.2.1 v.2.2.2.2.2.2.1
    ∧ (u.2.2.1 = 0 ∨ cf_XR N u.2.1 mm nx sh (cf_fit N mm) u.2.2.2.2.2.2.2.2.2.2.2.1 u.2.2.2.2.2.2.2.2.2.2.2.2.1 u.2.2.2.2.2.2.2.2.2.2.2.2.2.1 u.2.2.2.2.2.2.2.2.2.2.2.2.2.2)
theorem i_up {k : Nat} {u : SX} {v : SY} (h : i_Rel k u v) : i_Rel (k + 4) u v := h
section
variable {N : Nat} {g : Int32} {mm nx sh : Nat → Nat}
variable {f_c : Int32} {a_ac : Nat → Int32} {a_wc : Nat → Int32} {a_nx : Nat → Int32} {a_sh : Nat → Int32} {a_tb : Nat → Int64} {a_ro : Nat → Int32} {a_to : Nat → Int64} {a_bo : Nat → Int64} {a_bt : Nat → Int64} {a_bb : Nat → Int64} {a_wt : Nat → Int64} {a_wb : Nat → Int64}
variable {f_m : Int32} {f_a : Int64} {b_mm : Nat → Int32} {b_nx : Nat → Int32} {b_sh : Nat → Int32} {b_pk : Nat → Int32} {b_gd : Nat → Int64} {b_tp : Nat → Int64} {b_bt : Nat → Int64}
theorem cf_in {k : Nat} (W : cf_Wd N g mm nx sh) (V : cf_XW mm nx sh a_ac a_wc a_nx a_sh) (U : cf_YW mm nx sh b_mm b_nx b_sh) (hc : f_c = 0 ∨ cf_XR N g mm nx sh (cf_fit N mm) a_bt a_bb a_wt a_wb) : i_Rel k ((nI N), g, f_c, a_ac, a_wc, a_nx, a_sh, a_tb, a_ro, a_to, a_bo, a_bt, a_bb, a_wt, a_wb) ((nI N), g, f_m, f_a, b_mm, b_nx, b_sh, b_pk, b_gd, b_tp, b_bt) :=
  ⟨N, mm, nx, sh, rfl, rfl, rfl, W, V, U, hc⟩
end
theorem cf_el {Q : SX → SY → Prop} {k : Nat} {u : SX} {v : SY} (I : i_Rel k u v)
    (h : ∀ (N : Nat) (g : Int32) (mm nx sh : Nat → Nat) (f_c : Int32) (a_ac : Nat → Int32) (a_wc : Nat → Int32) (a_nx : Nat → Int32) (a_sh : Nat → Int32) (a_tb : Nat → Int64) (a_ro : Nat → Int32) (a_to : Nat → Int64) (a_bo : Nat → Int64) (a_bt : Nat → Int64) (a_bb : Nat → Int64) (a_wt : Nat → Int64) (a_wb : Nat → Int64) (f_m : Int32) (f_a : Int64) (b_mm : Nat → Int32) (b_nx : Nat → Int32) (b_sh : Nat → Int32) (b_pk : Nat → Int32) (b_gd : Nat → Int64) (b_tp : Nat → Int64) (b_bt : Nat → Int64), cf_Wd N g mm nx sh → cf_XW mm nx sh a_ac a_wc a_nx a_sh → cf_YW mm nx sh b_mm b_nx b_sh → (f_c = 0 ∨ cf_XR N g mm nx sh (cf_fit N mm) a_bt a_bb a_wt a_wb) → Q ((nI N), g, f_c, a_ac, a_wc, a_nx, a_sh, a_tb, a_ro, a_to, a_bo, a_bt, a_bb, a_wt, a_wb) ((nI N), g, f_m, f_a, b_mm, b_nx, b_sh, b_pk, b_gd, b_tp, b_bt)) : Q u v := by
  obtain ⟨f_n, g, f_c, a_ac, a_wc, a_nx, a_sh, a_tb, a_ro, a_to, a_bo, a_bt, a_bb, a_wt, a_wb⟩ := u
  obtain ⟨e_n, e_g, f_m, f_a, b_mm, b_nx, b_sh, b_pk, b_gd, b_tp, b_bt⟩ := v
  obtain ⟨N, mm, nx, sh, h1, h2, h3, W, V, U, hc⟩ := I
  have h1' : f_n = nI N := h1
  have h2' : e_n = nI N := h2
  have h3' : e_g = g := h3
  subst h1' h2' h3'
  exact h N e_g mm nx sh f_c a_ac a_wc a_nx a_sh a_tb a_ro a_to a_bo a_bt a_bb a_wt a_wb f_m f_a b_mm b_nx b_sh b_pk b_gd b_tp b_bt W V U hc
theorem cf_W0 {N : Nat} (h2 : 2 ≤ N) (h6 : N ≤ 6) : cf_Wd N 0 (fun _ => 0) (fun _ => 0) (fun _ => 0) :=
  ⟨h2, h6, fun i _ => b_0 i, fun _ => Nat.zero_le _, fun _ => (show 0 < N by omega), fun _ => Nat.zero_le _, fun j k hk => absurd hk (Nat.not_lt_zero k), fun _ _ => rfl⟩
theorem cf_rel0 {N : Nat} (h2 : 2 ≤ N) (h6 : N ≤ 6) : i_Rel 1 (nI N, 0, 0, (fun _ => 0), (fun _ => 0), (fun _ => 0), (fun _ => 0), (fun _ => 0), (fun _ => 0), (fun _ => 0), (fun _ => 0), (fun _ => 0), (fun _ => 0), (fun _ => 0), (fun _ => 0)) (nI N, 0, 0, 0, (fun _ => 0), (fun _ => 0), (fun _ => 0), (fun _ => 0), (fun _ => 0), (fun _ => 0), (fun _ => 0)) :=
  cf_in (cf_W0 h2 h6) ⟨fun _ => rfl, fun _ => rfl, fun _ _ => rfl, fun j hj => absurd hj (Nat.lt_irrefl 0)⟩ ⟨fun _ => rfl, fun _ => rfl, fun _ => rfl⟩ (Or.inl rfl)
theorem i_vc0 (k0 : Int32) : wpX_init (fun u => wpY_init (fun v => i_Rel 1 u v) k0) k0 := by
  by_cases h2 : 2 ≤ k0
  · refine br_t h2 ?_
    by_cases h6 : k0 ≤ 6
    · have h0 : ¬ k0 < 0 := Int32.not_lt.mpr (Int32.le_trans (by decide) h2)
      obtain ⟨N, hN, rfl⟩ := nI_of h0
      have a2 := (nI_leI (a := 2) (by omega) hN).mp h2
      have a6 := (nI_leI (b := 6) hN (by omega)).mp h6
      exact br_t h6 (br_t h2 (br_t h6 (cf_rel0 a2 a6)))
    · exact br_f h6 (br_t h2 (br_f h6 (cf_rel0 (N := 6) (by omega) (by omega))))
  · exact br_f h2 (br_t (by decide) (br_f h2 (cf_rel0 (N := 2) (by omega) (by omega))))
section
variable {N : Nat} {g : Int32} {mm nx sh : Nat → Nat}
variable {f_c : Int32} {a_ac : Nat → Int32} {a_wc : Nat → Int32} {a_nx : Nat → Int32} {a_sh : Nat → Int32} {a_tb : Nat → Int64} {a_ro : Nat → Int32} {a_to : Nat → Int64} {a_bo : Nat → Int64} {a_bt : Nat → Int64} {a_bb : Nat → Int64} {a_wt : Nat → Int64} {a_wb : Nat → Int64}
theorem cf_X_good_f {post : Int32 → Prop} {x : Int32} (h : x < 0 ∨ nI N ≤ x) (K : post 0) : wpX_isGood post ((nI N), g, f_c, a_ac, a_wc, a_nx, a_sh, a_tb, a_ro, a_to, a_bo, a_bt, a_bb, a_wt, a_wb) x := by
  by_cases h0 : x < 0
  · exact br_t h0 K
  · exact br_f h0 (br_t (h.resolve_left h0) K)
theorem cf_X_good_t {post : Int32 → Prop} {s : Nat} (hN : N ≤ 6) (hs : s < N) (K : post 1) : wpX_isGood post ((nI N), g, f_c, a_ac, a_wc, a_nx, a_sh, a_tb, a_ro, a_to, a_bo, a_bt, a_bb, a_wt, a_wb) (nI s) :=
  br_f (nI_pos (by omega)) (br_f (nI_ge hs (by omega)) K)
end
section
variable {N : Nat} {g : Int32} {mm nx sh : Nat → Nat}
variable {f_m : Int32} {f_a : Int64} {a_mm : Nat → Int32} {a_nx : Nat → Int32} {a_sh : Nat → Int32} {a_pk : Nat → Int32} {a_gd : Nat → Int64} {a_tp : Nat → Int64} {a_bt : Nat → Int64}
theorem cf_Y_bad_t {post : Int32 → Prop} {x : Int32} (h : x < 0 ∨ nI N ≤ x) (K : post 1) : wpY_bad post ((nI N), g, f_m, f_a, a_mm, a_nx, a_sh, a_pk, a_gd, a_tp, a_bt) x := by
  by_cases h0 : x < 0
  · exact br_t h0 K
  · exact br_f h0 (br_t (h.resolve_left h0) K)
theorem cf_Y_bad_f {post : Int32 → Prop} {s : Nat} (hN : N ≤ 6) (hs : s < N) (K : post 0) : wpY_bad post ((nI N), g, f_m, f_a, a_mm, a_nx, a_sh, a_pk, a_gd, a_tp, a_bt) (nI s) :=
  br_f (nI_pos (by omega)) (br_f (nI_ge hs (by omega)) (br_t (nI_le (b := 5) (by omega) (by omega)) K))
theorem cf_Y_acount (W : cf_Wd N g mm nx sh) (V : cf_YW mm nx sh a_mm a_nx a_sh) {post : Int32 → Prop} {s : Nat} (hs : s < N) (K : post (nI (cf_aq mm s))) : wpY_actionCount post ((nI N), g, f_m, f_a, a_mm, a_nx, a_sh, a_pk, a_gd, a_tp, a_bt) (nI s) := by
  have hN := W.2.1
  have m1 := W.2.2.2.1 (2 * s)
  have m2 := W.2.2.2.1 (2 * s + 1)
  have e0 : a_mm (2 * nI s).toNatClampNeg = nI (mm (2 * s)) := by rw [cf_i2, cf_c (by omega)]; exact V.1 _
  have e1 : a_mm ((2 * nI s) + 1).toNatClampNeg = nI (mm (2 * s + 1)) := by rw [cf_i21, cf_c (by omega)]; exact V.1 _
  unfold cf_aq at K
  refine And.intro (by rw [cf_i2]; exact cf_v (by omega)) ?_
  rw [e0]
  by_cases h0 : mm (2 * s) = 0
  · rw [if_pos h0] at K
    exact br_t (congrArg nI h0) K
  · rw [if_neg h0] at K
    refine br_f (nI_ne0 (by omega) (by omega)) (And.intro (by rw [cf_i21]; exact cf_v (by omega)) ?_)
    rw [e1]
    by_cases h1 : mm (2 * s + 1) = 0
    · rw [if_pos h1] at K
      exact br_t (congrArg nI h1) K
    · rw [if_neg h1] at K
      exact br_f (nI_ne0 (by omega) (by omega)) K
end
theorem cf_ix (x : Int32) {N : Nat} (hN : N ≤ 6) : (x < 0 ∨ nI N ≤ x) ∨ ∃ s, s < N ∧ x = nI s := by
  rcases pk_ix x (n := N) (by omega) with h | h | h
  · exact Or.inl (Or.inl h)
  · exact Or.inl (Or.inr h)
  · exact Or.inr h
theorem i_vc_states {k : Nat} {u : SX} {v : SY} (I : i_Rel k u v) (hk : k + 4 ≤ 2049) : wpX_states (fun r => wpY_states (fun r' => r' = r ∧ i_Rel (k + 4) u v) v) u := by
  refine cf_el (Q := fun u v => wpX_states (fun r => wpY_states (fun r' => r' = r ∧ i_Rel (k + 4) u v) v) u) I ?_
  intro N g mm nx sh f_c a_ac a_wc a_nx a_sh a_tb a_ro a_to a_bo a_bt a_bb a_wt a_wb f_m f_a b_mm b_nx b_sh b_pk b_gd b_tp b_bt W V U hc
  exact And.intro rfl (cf_in W V U hc)
theorem i_vc_actions {k : Nat} {u : SX} {v : SY} (I : i_Rel k u v) (hk : k + 4 ≤ 2049) (v1 : Int32) : wpX_actions (fun r => wpY_actions (fun r' => r' = r ∧ i_Rel (k + 4) u v) v v1) u v1 := by
  refine cf_el (Q := fun u v => wpX_actions (fun r => wpY_actions (fun r' => r' = r ∧ i_Rel (k + 4) u v) v v1) u v1) I ?_
  intro N g mm nx sh f_c a_ac a_wc a_nx a_sh a_tb a_ro a_to a_bo a_bt a_bb a_wt a_wb f_m f_a b_mm b_nx b_sh b_pk b_gd b_tp b_bt W V U hc
  have hN := W.2.1
  unfold wpX_actions wpY_actions
  dsimp only
  rcases cf_ix v1 hN with h | ⟨s, hs, rfl⟩
  · refine cf_X_good_f h (br_t rfl ?_)
    exact cf_Y_bad_t h (br_f (by decide) (And.intro rfl (cf_in W V U hc)))
  · refine cf_X_good_t hN hs (br_f (by decide) (And.intro (cf_v (by omega)) ?_))
    refine cf_Y_bad_f hN hs (br_t rfl (cf_Y_acount W U hs (And.intro ?_ (cf_in W V U hc))))
    rw [cf_c (by omega), V.2.2.1 s (by omega)]
theorem cf_orc (g : Int32) {s : Nat} (hs : s < 32) : (g &&& (cf_bit s ^^^ (-1))) ||| cf_bit s = g ||| cf_bit s := by
  refine b_ext (fun i hi => ?_)
  rw [cf_bto hs, cf_bto hs, b_and, b_xor, cf_btb hs, b_m1 i hi]
  by_cases e : i = s
  · rw [decide_eq_true e, Bool.or_true, Bool.or_true]
  · rw [decide_eq_false e]; cases bt g i <;> rfl
theorem cf_W_g {N : Nat} {g g' : Int32} {mm nx sh : Nat → Nat} (W : cf_Wd N g mm nx sh) (h : ∀ i, N ≤ i → bt g' i = false) : cf_Wd N g' mm nx sh :=
  ⟨W.1, W.2.1, h, W.2.2.2⟩
theorem i_vc_goal {k : Nat} {u : SX} {v : SY} (I : i_Rel k u v) (hk : k + 4 ≤ 2049) (v1 : Int32) (v2 : Int32) : wpX_goal (fun r u' => wpY_goal (fun r' v' => r' = r ∧ i_Rel (k + 4) u' v') v v1 v2) u v1 v2 := by
  refine cf_el (Q := fun u v => wpX_goal (fun r u' => wpY_goal (fun r' v' => r' = r ∧ i_Rel (k + 4) u' v') v v1 v2) u v1 v2) I ?_
  intro N g mm nx sh f_c a_ac a_wc a_nx a_sh a_tb a_ro a_to a_bo a_bt a_bb a_wt a_wb f_m f_a b_mm b_nx b_sh b_pk b_gd b_tp b_bt W V U hc
  have hN := W.2.1
  unfold wpX_goal wpY_goal
  dsimp only
  rcases cf_ix v1 hN with h | ⟨s, hs, rfl⟩
  · refine cf_X_good_f h (br_t rfl ?_)
    exact cf_Y_bad_t h (br_f (by decide) (And.intro rfl (cf_in W V U hc)))
  · refine cf_X_good_t hN hs (br_f (by decide) (nm_e ?_))
    by_cases h2 : v2 = 0
    · refine br_t h2 (nm_e (cf_Y_bad_f hN hs (br_t rfl (nm_e (nm_e (br_t h2 (And.intro rfl (cf_in (cf_W_g W ?_) V U (Or.inl rfl)))))))))
      intro i hi
      rw [b_and, W.2.2.1 i hi]; rfl
    · refine br_f h2 (nm_e (cf_Y_bad_f hN hs (br_t rfl (nm_e (nm_e (br_f h2 (nm_r (cf_orc g (by omega)) (And.intro rfl (cf_in (cf_W_g W ?_) V U (Or.inl rfl))))))))))
      intro i hi
      show bt (g ||| cf_bit s) i = false
      rw [cf_bto (by omega), W.2.2.1 i hi, decide_eq_false (by omega)]; rfl
theorem cf_aq_c {mm mm' : Nat → Nat} {s : Nat} (h0 : mm' (2 * s) = mm (2 * s)) (h1 : mm' (2 * s + 1) = mm (2 * s + 1)) : cf_aq mm' s = cf_aq mm s := by
  unfold cf_aq; rw [h0, h1]
theorem i_vc_still {k : Nat} {u : SX} {v : SY} (I : i_Rel k u v) (hk : k + 4 ≤ 2049) (v1 : Int32) : wpX_still (fun r u' => wpY_still (fun r' v' => r' = r ∧ i_Rel (k + 4) u' v') v v1) u v1 := by
  refine cf_el (Q := fun u v => wpX_still (fun r u' => wpY_still (fun r' v' => r' = r ∧ i_Rel (k + 4) u' v') v v1) u v1) I ?_
  intro N g mm nx sh f_c a_ac a_wc a_nx a_sh a_tb a_ro a_to a_bo a_bt a_bb a_wt a_wb f_m f_a b_mm b_nx b_sh b_pk b_gd b_tp b_bt W V U hc
  have hN := W.2.1
  unfold wpX_still wpY_still
  dsimp only
  rcases cf_ix v1 hN with h | ⟨s, hs, rfl⟩
  · refine cf_X_good_f h (br_t rfl ?_)
    exact cf_Y_bad_t h (br_f (by decide) (And.intro rfl (cf_in W V U hc)))
  · have hcl : (nI s).toNatClampNeg = s := cf_c (by omega)
    have e0 : (2 * nI s).toNatClampNeg = 2 * s := by rw [cf_i2, cf_c (by omega)]
    have e1 : ((2 * nI s) + 1).toNatClampNeg = 2 * s + 1 := by rw [cf_i21, cf_c (by omega)]
    refine cf_X_good_t hN hs (br_f (by decide) (And.intro (cf_v (by omega)) (nm_r (e' := nI (cf_aq mm s)) (by rw [hcl, V.2.2.1 s (by omega)]) (And.intro (cf_v (by omega)) (nm_r (e' := upd a_ac s 0) (by rw [hcl]) ?_)))))
    refine cf_Y_bad_f hN hs (br_t rfl (cf_Y_acount W U hs (And.intro (by rw [cf_i2]; exact cf_v (by omega)) (nm_r (e' := upd b_mm (2 * s) 0) (by rw [e0]) (And.intro (by rw [cf_i21]; exact cf_v (by omega)) (nm_r (e' := upd (upd b_mm (2 * s) 0) (2 * s + 1) 0) (by rw [e1]) (And.intro rfl ?_)))))))
    refine cf_in (mm := fun j => if j = 2 * s ∨ j = 2 * s + 1 then 0 else mm j) (nx := nx) (sh := sh) ?_ ?_ ?_ (Or.inl rfl)
    · refine ⟨W.1, W.2.1, W.2.2.1, fun j => ?_, W.2.2.2.2.1, W.2.2.2.2.2.1, fun j k' hk' => ?_, fun s' hs' => ?_⟩
      · show (if j = 2 * s ∨ j = 2 * s + 1 then 0 else mm j) ≤ 3
        by_cases e : j = 2 * s ∨ j = 2 * s + 1
        · rw [if_pos e]; omega
        · rw [if_neg e]; exact W.2.2.2.1 j
      · have hk2 : k' < (if j = 2 * s ∨ j = 2 * s + 1 then 0 else mm j) := hk'
        by_cases e : j = 2 * s ∨ j = 2 * s + 1
        · rw [if_pos e] at hk2; omega
        · rw [if_neg e] at hk2; exact W.2.2.2.2.2.2.1 j k' hk2
      · have hs2 : (if 2 * s' = 2 * s ∨ 2 * s' = 2 * s + 1 then 0 else mm (2 * s')) = 0 := hs'
        show (if 2 * s' + 1 = 2 * s ∨ 2 * s' + 1 = 2 * s + 1 then 0 else mm (2 * s' + 1)) = 0
        by_cases e : s' = s
        · rw [if_pos (Or.inr (by omega))]
        · rw [if_neg (by omega)] at hs2
          rw [if_neg (by omega)]; exact W.2.2.2.2.2.2.2 s' hs2
    · refine ⟨V.1, V.2.1, fun s' hs' => ?_, fun j hj => ?_⟩
      · by_cases e : s' = s
        · subst e
          rw [pk_us]
          have e2 : cf_aq (fun j => if j = 2 * s' ∨ j = 2 * s' + 1 then 0 else mm j) s' = 0 := by
            unfold cf_aq
            rw [if_pos]
            exact if_pos (Or.inl rfl)
          rw [e2]; rfl
        · rw [pk_un e, V.2.2.1 s' hs']
          refine congrArg nI (cf_aq_c ?_ ?_).symm
          · exact if_neg (by omega)
          · exact if_neg (by omega)
      · have hj2 : 0 < (if j = 2 * s ∨ j = 2 * s + 1 then 0 else mm j) := hj
        show a_wc j = nI (if j = 2 * s ∨ j = 2 * s + 1 then 0 else mm j)
        by_cases e : j = 2 * s ∨ j = 2 * s + 1
        · rw [if_pos e] at hj2; omega
        · rw [if_neg e] at hj2 ⊢; exact V.2.2.2 j hj2
    · refine ⟨fun j => ?_, U.2.1, U.2.2⟩
      show upd (upd b_mm (2 * s) 0) (2 * s + 1) 0 j = nI (if j = 2 * s ∨ j = 2 * s + 1 then 0 else mm j)
      by_cases ea : j = 2 * s + 1
      · subst ea; rw [pk_us, if_pos (Or.inr rfl)]; rfl
      · rw [pk_un ea]
        by_cases eb : j = 2 * s
        · subst eb; rw [pk_us, if_pos (Or.inl rfl)]; rfl
        · rw [pk_un eb, if_neg (fun h => h.elim eb ea)]; exact U.1 j
end
section
/-! way -/
def cf_mmw (mm : Nat → Nat) (c : Nat) : Nat → Nat := fun j => if j = c then mm c + 1 else mm j
def cf_put (f : Nat → Nat) (c x : Nat) : Nat → Nat := fun j => if j = c then x else f j
def cf_gd (N q : Nat) : Prop := q / 16 < N ∧ 1 ≤ q % 16 ∧ q % 16 ≤ 9
section
variable {N : Nat} {g : Int32} {mm nx sh : Nat → Nat} {s a q : Nat}
theorem cf_mmw_s (mm : Nat → Nat) (c : Nat) : cf_mmw mm c c = mm c + 1 := if_pos rfl
theorem cf_mmw_n {mm : Nat → Nat} {c j : Nat} (h : j ≠ c) : cf_mmw mm c j = mm j := if_neg h
theorem cf_put_s (f : Nat → Nat) (c x : Nat) : cf_put f c x c = x := if_pos rfl
theorem cf_put_n {f : Nat → Nat} {c j x : Nat} (h : j ≠ c) : cf_put f c x j = f j := if_neg h
theorem cf_aq_le (W : cf_Wd N g mm nx sh) (ha : a ≤ 1) : a ≤ cf_aq mm s ↔ ¬ (a = 1 ∧ mm (2 * s) = 0) := by
  unfold cf_aq
  by_cases h0 : mm (2 * s) = 0
  · rw [if_pos h0]; omega
  · rw [if_neg h0]
    by_cases h1 : mm (2 * s + 1) = 0
    · rw [if_pos h1]; omega
    · rw [if_neg h1]; omega
theorem cf_aq_at (W : cf_Wd N g mm nx sh) (ha : a ≤ 1) (hle : a ≤ cf_aq mm s) : (a = cf_aq mm s ↔ mm (2 * s + a) = 0) := by
  have h3 := W.2.2.2.2.2.2.2 s
  have e : a = 0 ∨ a = 1 := by omega
  unfold cf_aq at *
  by_cases h0 : mm (2 * s) = 0
  · rw [if_pos h0] at *
    have e2 : a = 0 := by omega
    subst e2; simp [h0]
  · rw [if_neg h0] at *
    by_cases h1 : mm (2 * s + 1) = 0
    · rw [if_pos h1] at *
      rcases e with e | e <;> subst e <;> simp [h0, h1]
    · rw [if_neg h1] at *
      rcases e with e | e <;> subst e <;> simp [h0, h1]
theorem cf_way_W (W : cf_Wd N g mm nx sh) (ha : a ≤ 1) (hle : a ≤ cf_aq mm s) (hq : cf_gd N q) (hm : mm (2 * s + a) ≤ 2) :
    cf_Wd N g (cf_mmw mm (2 * s + a)) (cf_put nx (3 * (2 * s + a) + mm (2 * s + a)) (q / 16)) (cf_put sh (3 * (2 * s + a) + mm (2 * s + a)) (q % 16)) := by
  have hl := (cf_aq_le (s := s) W ha).mp hle
  refine ⟨W.1, W.2.1, W.2.2.1, fun j => ?_, fun j => ?_, fun j => ?_, fun j k hk => ?_, fun s' hs' => ?_⟩
  · by_cases e : j = 2 * s + a
    · subst e; rw [cf_mmw_s]; omega
    · rw [cf_mmw_n e]; exact W.2.2.2.1 j
  · by_cases e : j = 3 * (2 * s + a) + mm (2 * s + a)
    · subst e; rw [cf_put_s]; exact hq.1
    · rw [cf_put_n e]; exact W.2.2.2.2.1 j
  · by_cases e : j = 3 * (2 * s + a) + mm (2 * s + a)
    · subst e; rw [cf_put_s]; exact hq.2.2
    · rw [cf_put_n e]; exact W.2.2.2.2.2.1 j
  · by_cases e : j = 2 * s + a
    · subst e
      rw [cf_mmw_s] at hk
      by_cases e2 : k = mm (2 * s + a)
      · subst e2; rw [cf_put_s]; exact hq.2.1
      · rw [cf_put_n (by omega)]; exact W.2.2.2.2.2.2.1 _ k (by omega)
    · rw [cf_mmw_n e] at hk
      have := W.2.2.2.1 j
      rw [cf_put_n (by omega)]; exact W.2.2.2.2.2.2.1 _ k hk
  · by_cases e : 2 * s' = 2 * s + a
    · rw [e, cf_mmw_s] at hs'; omega
    · rw [cf_mmw_n e] at hs'
      have h1 := W.2.2.2.2.2.2.2 s' hs'
      by_cases e2 : 2 * s' + 1 = 2 * s + a
      · have e3 : a = 1 ∧ s' = s := by omega
        obtain ⟨e4, e5⟩ := e3
        subst e5
        exact absurd ⟨e4, hs'⟩ hl
      · rw [cf_mmw_n e2]; exact h1
theorem cf_way_aq (W : cf_Wd N g mm nx sh) (ha : a ≤ 1) (hle : a ≤ cf_aq mm s) : cf_aq (cf_mmw mm (2 * s + a)) s = if a = cf_aq mm s then cf_aq mm s + 1 else cf_aq mm s := by
  have h3 := W.2.2.2.2.2.2.2 s
  have hl := (cf_aq_le (s := s) W ha).mp hle
  have e : a = 0 ∨ a = 1 := by omega
  rcases e with e | e
  · subst e
    have e0 : cf_mmw mm (2 * s + 0) (2 * s) = mm (2 * s) + 1 := cf_mmw_s mm (2 * s)
    have e1 : cf_mmw mm (2 * s + 0) (2 * s + 1) = mm (2 * s + 1) := cf_mmw_n (by omega)
    unfold cf_aq
    rw [e0, e1, if_neg (by omega)]
    by_cases h0 : mm (2 * s) = 0
    · rw [if_pos h0, if_pos (h3 h0), if_pos rfl]
    · rw [if_neg h0]
      by_cases h1 : mm (2 * s + 1) = 0
      · rw [if_pos h1, if_neg (by decide)]
      · rw [if_neg h1, if_neg (by decide)]
  · subst e
    have e0 : cf_mmw mm (2 * s + 1) (2 * s) = mm (2 * s) := cf_mmw_n (by omega)
    have e1 : cf_mmw mm (2 * s + 1) (2 * s + 1) = mm (2 * s + 1) + 1 := cf_mmw_s mm _
    have h0 : ¬ mm (2 * s) = 0 := fun e => hl ⟨rfl, e⟩
    unfold cf_aq
    rw [e0, e1, if_neg h0, if_neg (by omega), if_neg h0]
    by_cases h1 : mm (2 * s + 1) = 0
    · rw [if_pos h1, if_pos rfl]
    · rw [if_neg h1, if_neg (by decide)]
theorem cf_way_XW {a_ac a_wc a_nx a_sh : Nat → Int32} (W : cf_Wd N g mm nx sh) (V : cf_XW mm nx sh a_ac a_wc a_nx a_sh) (ha : a ≤ 1) (hle : a ≤ cf_aq mm s) :
    cf_XW (cf_mmw mm (2 * s + a)) (cf_put nx (3 * (2 * s + a) + mm (2 * s + a)) (q / 16)) (cf_put sh (3 * (2 * s + a) + mm (2 * s + a)) (q % 16))
      (if a = cf_aq mm s then upd a_ac s (nI (cf_aq mm s + 1)) else a_ac) (upd a_wc (2 * s + a) (nI (mm (2 * s + a) + 1))) (upd a_nx (3 * (2 * s + a) + mm (2 * s + a)) (nI (q / 16))) (upd a_sh (3 * (2 * s + a) + mm (2 * s + a)) (nI (q % 16))) := by
  refine ⟨fun j => ?_, fun j => ?_, fun s' hs' => ?_, fun j hj => ?_⟩
  · by_cases e : j = 3 * (2 * s + a) + mm (2 * s + a)
    · subst e; rw [pk_us, cf_put_s]
    · rw [pk_un e, cf_put_n e]; exact V.1 j
  · by_cases e : j = 3 * (2 * s + a) + mm (2 * s + a)
    · subst e; rw [pk_us, cf_put_s]
    · rw [pk_un e, cf_put_n e]; exact V.2.1 j
  · by_cases e : s' = s
    · subst e
      rw [cf_way_aq W ha hle]
      by_cases h : a = cf_aq mm s'
      · rw [if_pos h, if_pos h, pk_us]
      · rw [if_neg h, if_neg h]; exact V.2.2.1 s' hs'
    · have e2 : cf_aq (cf_mmw mm (2 * s + a)) s' = cf_aq mm s' := cf_aq_c (cf_mmw_n (by omega)) (cf_mmw_n (by omega))
      rw [e2]
      by_cases h : a = cf_aq mm s
      · rw [if_pos h, pk_un e]; exact V.2.2.1 s' hs'
      · rw [if_neg h]; exact V.2.2.1 s' hs'
  · by_cases e : j = 2 * s + a
    · subst e; rw [pk_us, cf_mmw_s]
    · rw [cf_mmw_n e] at hj ⊢
      rw [pk_un e]; exact V.2.2.2 j hj
theorem cf_way_YW {a_mm a_nx a_sh : Nat → Int32} (V : cf_YW mm nx sh a_mm a_nx a_sh) :
    cf_YW (cf_mmw mm (2 * s + a)) (cf_put nx (3 * (2 * s + a) + mm (2 * s + a)) (q / 16)) (cf_put sh (3 * (2 * s + a) + mm (2 * s + a)) (q % 16))
      (upd a_mm (2 * s + a) (nI (mm (2 * s + a) + 1))) (upd a_nx (3 * (2 * s + a) + mm (2 * s + a)) (nI (q / 16))) (upd a_sh (3 * (2 * s + a) + mm (2 * s + a)) (nI (q % 16))) := by
  refine ⟨fun j => ?_, fun j => ?_, fun j => ?_⟩
  · by_cases e : j = 2 * s + a
    · subst e; rw [pk_us, cf_mmw_s]
    · rw [pk_un e, cf_mmw_n e]; exact V.1 j
  · by_cases e : j = 3 * (2 * s + a) + mm (2 * s + a)
    · subst e; rw [pk_us, cf_put_s]
    · rw [pk_un e, cf_put_n e]; exact V.2.1 j
  · by_cases e : j = 3 * (2 * s + a) + mm (2 * s + a)
    · subst e; rw [pk_us, cf_put_s]
    · rw [pk_un e, cf_put_n e]; exact V.2.2 j
end
section
variable {N : Nat} {g : Int32} {mm nx sh : Nat → Nat} {s a q : Nat}
variable {f_m : Int32} {f_a : Int64} {a_mm : Nat → Int32} {a_nx : Nat → Int32} {a_sh : Nat → Int32} {a_pk : Nat → Int32} {a_gd : Nat → Int64} {a_tp : Nat → Int64} {a_bt : Nat → Int64}
theorem cf_Y_w38 (W : cf_Wd N g mm nx sh) (V : cf_YW mm nx sh a_mm a_nx a_sh) (hs : s < N) (ha : a ≤ 1) (hq : q < 2 ^ 31) {post : Int32 → SY → Prop}
    (Kf : ¬ cf_gd N q → post (-3) ((nI N), g, f_m, f_a, a_mm, a_nx, a_sh, a_pk, a_gd, a_tp, a_bt)) (K4 : cf_gd N q → mm (2 * s + a) = 3 → post (-4) ((nI N), g, f_m, f_a, a_mm, a_nx, a_sh, a_pk, a_gd, a_tp, a_bt))
    (Kt : cf_gd N q → mm (2 * s + a) ≤ 2 → post (nI (mm (2 * s + a) + 1)) ((nI N), g, f_m, f_a, upd a_mm (2 * s + a) (nI (mm (2 * s + a) + 1)), upd a_nx (3 * (2 * s + a) + mm (2 * s + a)) (nI (q / 16)), upd a_sh (3 * (2 * s + a) + mm (2 * s + a)) (nI (q % 16)), a_pk, a_gd, a_tp, a_bt)) :
    wY_way_38 post (nI s) (nI a) (nI q) (nI N) g f_m f_a a_mm a_nx a_sh a_pk a_gd a_tp a_bt := by
  have hN := W.2.1
  have h3 := W.2.2.2.1 (2 * s + a)
  have e6 : nI q / 16 = nI (q / 16) := pk_div (d := 16) hq (by omega) (by omega)
  have e7 : nI q - nI q / 16 * 16 = nI (q % 16) := pk_rem (d := 16) hq (by omega) (by omega)
  have n16 : ¬ (16 : Int32) = 0 := by decide
  have ei : ((2 * nI s) + nI a).toNatClampNeg = 2 * s + a := by rw [cf_i2a, cf_c (by omega)]
  have v12 : vp_in ((2 * nI s) + nI a) 12 := by rw [cf_i2a]; exact cf_v (by omega)
  have q16 : q % 16 < 16 := Nat.mod_lt _ (by omega)
  unfold wY_way_38
  rw [e7, e6]
  refine br_f (nI_pos hq) (And.intro n16 ?_)
  by_cases g1 : q / 16 < N
  · refine br_f (nI_ge g1 (by omega)) (And.intro n16 ?_)
    by_cases g2 : 1 ≤ q % 16
    · refine br_f (nI_nlt (b := 1) g2 (by omega)) (And.intro n16 ?_)
      by_cases g3 : q % 16 ≤ 9
      · refine br_t (nI_le (b := 9) g3 (by omega)) (And.intro v12 (nm_r (e' := nI (mm (2 * s + a))) (by rw [ei]; exact V.1 _) ?_))
        by_cases h4 : mm (2 * s + a) ≤ 2
        · have ej : (((6 * nI s) + (3 * nI a)) + nI (mm (2 * s + a))).toNatClampNeg = 3 * (2 * s + a) + mm (2 * s + a) := by rw [cf_i6, cf_c (by omega)]
          have v36 : vp_in (((6 * nI s) + (3 * nI a)) + nI (mm (2 * s + a))) 36 := by rw [cf_i6]; exact cf_v (by omega)
          refine br_t (nI_le (b := 2) h4 (by omega)) (And.intro n16 (And.intro v36 (nm_r (e' := upd a_nx (3 * (2 * s + a) + mm (2 * s + a)) (nI (q / 16))) (by rw [ej]) (And.intro n16 (And.intro v36 (nm_r (e' := upd a_sh (3 * (2 * s + a) + mm (2 * s + a)) (nI (q % 16))) (by rw [ej]) (And.intro v12 (nm_r (e' := upd a_mm (2 * s + a) (nI (mm (2 * s + a) + 1))) (by rw [ei, nI_1]) ?_))))))))
          rw [nI_1]
          exact Kt ⟨g1, g2, g3⟩ h4
        · exact br_f (nI_ge (a := 2) (by omega) (by omega)) (K4 ⟨g1, g2, g3⟩ (by omega))
      · exact br_f (nI_ge (a := 9) (by omega) (by omega)) (Kf (fun h => g3 h.2.2))
    · exact br_t (nI_lt (b := 1) (by omega) (by omega)) (Kf (fun h => g2 h.2.1))
  · exact br_t (nI_le (by omega) (by omega)) (Kf (fun h => g1 h.1))
theorem cf_Y_way (W : cf_Wd N g mm nx sh) (V : cf_YW mm nx sh a_mm a_nx a_sh) (hs : s < N) (ha : a ≤ 1) (hle : a ≤ cf_aq mm s) {x : Int32} {post : Int32 → SY → Prop} (K : wY_way_38 post (nI s) (nI a) x (nI N) g f_m f_a a_mm a_nx a_sh a_pk a_gd a_tp a_bt) :
    wpY_way post ((nI N), g, f_m, f_a, a_mm, a_nx, a_sh, a_pk, a_gd, a_tp, a_bt) (nI s) (nI a) x := by
  have hN := W.2.1
  have h3 := W.2.2.2.1 (2 * s)
  unfold wpY_way
  dsimp only
  refine cf_Y_bad_f hN hs (br_t rfl (br_f (nI_pos (by omega)) (br_f (nI_nlt (b := a) (a := 1) (by omega) (by omega)) ?_)))
  by_cases e : a = 1
  · have h0 := (cf_aq_le (s := s) W ha).mp hle
    refine br_t (congrArg nI e) (And.intro (by rw [cf_i2]; exact cf_v (by omega)) (br_f ?_ K))
    rw [cf_i2, cf_c (by omega), V.1]
    exact nI_ne0 (by omega) (by omega)
  · exact br_f (fun h => e ((nI_eq (b := 1) (by omega) (by omega)).mp h)) K
end
section
variable {N : Nat} {g : Int32} {mm nx sh : Nat → Nat} {s a q : Nat}
variable {f_c : Int32} {a_ac : Nat → Int32} {a_wc : Nat → Int32} {a_nx : Nat → Int32} {a_sh : Nat → Int32} {a_tb : Nat → Int64} {a_ro : Nat → Int32} {a_to : Nat → Int64} {a_bo : Nat → Int64} {a_bt : Nat → Int64} {a_bb : Nat → Int64} {a_wt : Nat → Int64} {a_wb : Nat → Int64}
theorem cf_X_w131 (hs : s < N) (hN : N ≤ 6) (ha : a ≤ 1) (hm : mm (2 * s + a) ≤ 2) {post : Int32 → SX → Prop}
    (K : post (nI (mm (2 * s + a) + 1)) ((nI N), g, 0, a_ac, upd a_wc (2 * s + a) (nI (mm (2 * s + a) + 1)), upd a_nx (3 * (2 * s + a) + mm (2 * s + a)) (nI (q / 16)), upd a_sh (3 * (2 * s + a) + mm (2 * s + a)) (nI (q % 16)), a_tb, a_ro, a_to, a_bo, a_bt, a_bb, a_wt, a_wb)) :
    wX_way_131 post (nI (q / 16)) (nI (q % 16)) (nI (2 * s + a)) (nI (mm (2 * s + a))) (nI N) g f_c a_ac a_wc a_nx a_sh a_tb a_ro a_to a_bo a_bt a_bb a_wt a_wb := by
  have ej : ((3 * nI (2 * s + a)) + nI (mm (2 * s + a))).toNatClampNeg = 3 * (2 * s + a) + mm (2 * s + a) := by rw [cf_i3, cf_c (by omega)]
  have v36 : vp_in ((3 * nI (2 * s + a)) + nI (mm (2 * s + a))) 36 := by rw [cf_i3]; exact cf_v (by omega)
  refine And.intro v36 (nm_r (e' := upd a_nx (3 * (2 * s + a) + mm (2 * s + a)) (nI (q / 16))) (by rw [ej]) (And.intro v36 (nm_r (e' := upd a_sh (3 * (2 * s + a) + mm (2 * s + a)) (nI (q % 16))) (by rw [ej]) (And.intro (cf_v (by omega)) (nm_r (e' := upd a_wc (2 * s + a) (nI (mm (2 * s + a) + 1))) (by rw [cf_c (by omega), nI_1]) ?_)))))
  rw [nI_1]
  exact K
theorem cf_X_w100 (W : cf_Wd N g mm nx sh) (V : cf_XW mm nx sh a_ac a_wc a_nx a_sh) (hs : s < N) (ha : a ≤ 1) (hle : a ≤ cf_aq mm s) {post : Int32 → SX → Prop}
    (K4 : mm (2 * s + a) = 3 → post (-4) ((nI N), g, f_c, a_ac, a_wc, a_nx, a_sh, a_tb, a_ro, a_to, a_bo, a_bt, a_bb, a_wt, a_wb))
    (Kt : mm (2 * s + a) ≤ 2 → post (nI (mm (2 * s + a) + 1)) ((nI N), g, 0, (if a = cf_aq mm s then upd a_ac s (nI (cf_aq mm s + 1)) else a_ac), upd a_wc (2 * s + a) (nI (mm (2 * s + a) + 1)), upd a_nx (3 * (2 * s + a) + mm (2 * s + a)) (nI (q / 16)), upd a_sh (3 * (2 * s + a) + mm (2 * s + a)) (nI (q % 16)), a_tb, a_ro, a_to, a_bo, a_bt, a_bb, a_wt, a_wb)) :
    wX_way_100 post (nI s) (nI a) (nI (q / 16)) (nI (q % 16)) (nI (2 * s + a)) (nI (mm (2 * s + a))) (nI N) g f_c a_ac a_wc a_nx a_sh a_tb a_ro a_to a_bo a_bt a_bb a_wt a_wb := by
  have hN := W.2.1
  have h3 := W.2.2.2.1 (2 * s + a)
  have hcl : (nI s).toNatClampNeg = s := cf_c (by omega)
  have hv : vp_in (nI s) 6 := cf_v (by omega)
  have eac : a_ac (nI s).toNatClampNeg = nI (cf_aq mm s) := by rw [hcl]; exact V.2.2.1 s (by omega)
  have aq2 : cf_aq mm s ≤ 2 := by
    unfold cf_aq
    by_cases h0 : mm (2 * s) = 0
    · rw [if_pos h0]; omega
    · rw [if_neg h0]
      by_cases h1 : mm (2 * s + 1) = 0
      · rw [if_pos h1]; omega
      · rw [if_neg h1]; omega
  by_cases h4 : mm (2 * s + a) = 3
  · exact br_t (congrArg nI h4) (K4 h4)
  · refine br_f (fun h => h4 ((nI_eq (b := 3) (by omega) (by omega)).mp h)) (And.intro hv ?_)
    have Kt' := Kt (by omega)
    by_cases h : a = cf_aq mm s
    · rw [if_pos h] at Kt'
      refine br_t (by rw [eac, ← h]) (And.intro hv (And.intro hv (nm_r (e' := upd a_ac s (nI (cf_aq mm s + 1))) (by rw [eac, hcl, nI_1]) (cf_X_w131 hs hN ha (by omega) Kt'))))
    · rw [if_neg h] at Kt'
      exact br_f (fun h' => h (by rw [eac] at h'; exact (nI_eq (by omega) (by omega)).mp h')) (cf_X_w131 hs hN ha (by omega) Kt')
theorem cf_X_way (W : cf_Wd N g mm nx sh) (V : cf_XW mm nx sh a_ac a_wc a_nx a_sh) (hs : s < N) (ha : a ≤ 1) (hle : a ≤ cf_aq mm s) (hq : q < 2 ^ 31) {post : Int32 → SX → Prop}
    (Kf : ¬ cf_gd N q → post (-3) ((nI N), g, f_c, a_ac, a_wc, a_nx, a_sh, a_tb, a_ro, a_to, a_bo, a_bt, a_bb, a_wt, a_wb)) (K4 : cf_gd N q → mm (2 * s + a) = 3 → post (-4) ((nI N), g, f_c, a_ac, a_wc, a_nx, a_sh, a_tb, a_ro, a_to, a_bo, a_bt, a_bb, a_wt, a_wb))
    (Kt : cf_gd N q → mm (2 * s + a) ≤ 2 → post (nI (mm (2 * s + a) + 1)) ((nI N), g, 0, (if a = cf_aq mm s then upd a_ac s (nI (cf_aq mm s + 1)) else a_ac), upd a_wc (2 * s + a) (nI (mm (2 * s + a) + 1)), upd a_nx (3 * (2 * s + a) + mm (2 * s + a)) (nI (q / 16)), upd a_sh (3 * (2 * s + a) + mm (2 * s + a)) (nI (q % 16)), a_tb, a_ro, a_to, a_bo, a_bt, a_bb, a_wt, a_wb)) :
    wpX_way post ((nI N), g, f_c, a_ac, a_wc, a_nx, a_sh, a_tb, a_ro, a_to, a_bo, a_bt, a_bb, a_wt, a_wb) (nI s) (nI a) (nI q) := by
  have hN := W.2.1
  have h3 := W.2.2.2.1 (2 * s + a)
  have hcl : (nI s).toNatClampNeg = s := cf_c (by omega)
  have hv : vp_in (nI s) 6 := cf_v (by omega)
  have eac : a_ac (nI s).toNatClampNeg = nI (cf_aq mm s) := by rw [hcl]; exact V.2.2.1 s (by omega)
  have aq2 : cf_aq mm s ≤ 2 := by
    unfold cf_aq
    by_cases h0 : mm (2 * s) = 0
    · rw [if_pos h0]; omega
    · rw [if_neg h0]
      by_cases h1 : mm (2 * s + 1) = 0
      · rw [if_pos h1]; omega
      · rw [if_neg h1]; omega
  have e4 : nI q >>> ((4 : Int32) &&& 31) = nI (q / 16) := pk_shrN hq _ 4 (by decide)
  have e5 : nI q &&& 15 = nI (q % 16) := pk_andN (by omega) 4 (by decide)
  have q16 : q % 16 < 16 := Nat.mod_lt _ (by omega)
  have hq16 : q / 16 < 2 ^ 31 := by omega
  unfold wpX_way
  dsimp only
  refine cf_X_good_t hN hs (br_f (by decide) (br_f (nI_pos (by omega)) (br_f (nI_nlt (b := a) (a := 1) (by omega) (by omega)) (And.intro hv (br_t (by rw [eac]; exact nI_le hle (by omega)) (nm_r e4 (nm_r e5 (br_f (nI_pos hq) ?_))))))))
  by_cases g1 : q / 16 < N
  · refine cf_X_good_t hN g1 (br_f (by decide) ?_)
    by_cases g2 : 1 ≤ q % 16
    · refine br_f (nI_nlt (b := 1) g2 (by omega)) ?_
      by_cases g3 : q % 16 ≤ 9
      · refine br_t (nI_le (b := 9) g3 (by omega)) (nm_r (cf_i2a s a) (And.intro hv ?_))
        have hat := cf_aq_at (s := s) W ha hle
        have hw := cf_X_w100 (q := q) W V hs ha hle (K4 ⟨g1, g2, g3⟩) (Kt ⟨g1, g2, g3⟩)
        by_cases h : a = cf_aq mm s
        · rw [hat.mp h] at hw
          refine br_t (by rw [eac, ← h]) ?_
          exact hw
        · refine br_f (fun h' => h (by rw [eac] at h'; exact (nI_eq (by omega) (by omega)).mp h')) (And.intro (cf_v (by omega)) ?_)
          rw [cf_c (by omega), V.2.2.2 (2 * s + a) (by have := fun e => h (hat.mpr e); omega)]
          exact hw
      · exact br_f (nI_ge (a := 9) (by omega) (by omega)) (Kf (fun h => g3 h.2.2))
    · exact br_t (nI_lt (b := 1) (by omega) (by omega)) (Kf (fun h => g2 h.2.1))
  · exact cf_X_good_f (Or.inr (nI_le (by omega) hq16)) (br_t rfl (Kf (fun h => g1 h.1)))
end
theorem i_vc_way {k : Nat} {u : SX} {v : SY} (I : i_Rel k u v) (hk : k + 4 ≤ 2049) (v1 : Int32) (v2 : Int32) (v3 : Int32) : wpX_way (fun r u' => wpY_way (fun r' v' => r' = r ∧ i_Rel (k + 4) u' v') v v1 v2 v3) u v1 v2 v3 := by
  refine cf_el (Q := fun u v => wpX_way (fun r u' => wpY_way (fun r' v' => r' = r ∧ i_Rel (k + 4) u' v') v v1 v2 v3) u v1 v2 v3) I ?_
  intro N g mm nx sh f_c a_ac a_wc a_nx a_sh a_tb a_ro a_to a_bo a_bt a_bb a_wt a_wb f_m f_a b_mm b_nx b_sh b_pk b_gd b_tp b_bt W V U hc
  have hN := W.2.1
  have RI : i_Rel (k + 4) ((nI N), g, f_c, a_ac, a_wc, a_nx, a_sh, a_tb, a_ro, a_to, a_bo, a_bt, a_bb, a_wt, a_wb) ((nI N), g, f_m, f_a, b_mm, b_nx, b_sh, b_pk, b_gd, b_tp, b_bt) := cf_in W V U hc
  rcases cf_ix v1 hN with h | ⟨s, hs, rfl⟩
  · unfold wpX_way wpY_way
    dsimp only
    refine cf_X_good_f h (br_t rfl ?_)
    exact cf_Y_bad_t h (br_f (by decide) (And.intro rfl RI))
  · have hcl : (nI s).toNatClampNeg = s := cf_c (by omega)
    have hv : vp_in (nI s) 6 := cf_v (by omega)
    by_cases h1 : v2 < 0
    · unfold wpX_way wpY_way
      dsimp only
      refine cf_X_good_t hN hs (br_f (by decide) (br_t h1 ?_))
      exact cf_Y_bad_f hN hs (br_t rfl (br_t h1 (And.intro rfl RI)))
    · by_cases h2 : 1 < v2
      · unfold wpX_way wpY_way
        dsimp only
        refine cf_X_good_t hN hs (br_f (by decide) (br_f h1 (br_t h2 ?_)))
        exact cf_Y_bad_f hN hs (br_t rfl (br_f h1 (br_t h2 (And.intro rfl RI))))
      · obtain ⟨a, ha', rfl⟩ := nI_of h1
        have ha : a ≤ 1 := by
          refine Classical.byContradiction (fun hn => h2 ?_)
          exact nI_lt (a := 1) (by omega) ha'
        by_cases hle : a ≤ cf_aq mm s
        · by_cases h3 : v3 < 0
          · unfold wpX_way
            dsimp only
            refine cf_X_good_t hN hs (br_f (by decide) (br_f h1 (br_f h2 (And.intro hv (br_t ?_ (nm_e (nm_e (br_t h3 ?_))))))))
            · rw [hcl, V.2.2.1 s (by omega)]
              refine nI_le hle ?_
              unfold cf_aq
              by_cases h0 : mm (2 * s) = 0
              · rw [if_pos h0]; omega
              · rw [if_neg h0]
                by_cases h1 : mm (2 * s + 1) = 0
                · rw [if_pos h1]; omega
                · rw [if_neg h1]; omega
            · exact cf_Y_way W U hs ha hle (br_t h3 (And.intro rfl RI))
          · obtain ⟨q, hq, rfl⟩ := nI_of h3
            refine cf_X_way W V hs ha hle hq (fun hf => ?_) (fun hg h4 => ?_) (fun hg hm => ?_)
            · exact cf_Y_way W U hs ha hle (cf_Y_w38 W U hs ha hq (fun _ => And.intro rfl RI) (fun hg _ => absurd hg hf) (fun hg _ => absurd hg hf))
            · exact cf_Y_way W U hs ha hle (cf_Y_w38 W U hs ha hq (fun hf => absurd hg hf) (fun _ _ => And.intro rfl RI) (fun _ h5 => by omega))
            · refine cf_Y_way W U hs ha hle (cf_Y_w38 W U hs ha hq (fun hf => absurd hg hf) (fun _ h5 => by omega) (fun _ _ => And.intro rfl ?_))
              exact cf_in (cf_way_W W ha hle hg hm) (cf_way_XW W V ha hle) (cf_way_YW U) (Or.inl rfl)
        · have hn := hle
          rw [cf_aq_le W ha] at hn
          have hx : a = 1 ∧ mm (2 * s) = 0 := Classical.byContradiction (fun h => hn h)
          obtain ⟨rfl, h0⟩ := hx
          have haq : cf_aq mm s = 0 := by unfold cf_aq; rw [if_pos h0]
          unfold wpX_way wpY_way
          dsimp only
          refine cf_X_good_t hN hs (br_f (by decide) (br_f h1 (br_f h2 (And.intro hv (br_f ?_ ?_)))))
          · rw [hcl, V.2.2.1 s (by omega), haq]; exact nI_ge (by omega) (by omega)
          · refine cf_Y_bad_f hN hs (br_t rfl (br_f h1 (br_f h2 (br_t rfl (And.intro (by rw [cf_i2]; exact cf_v (by omega)) (br_t ?_ (And.intro rfl RI)))))))
            rw [cf_i2, cf_c (by omega), U.1, h0]; rfl
end
section
/-! the calls that ask chances -/
theorem i_vc_chanceTop {k : Nat} {u : SX} {v : SY} (I : i_Rel k u v) (hk : k + 4 ≤ 2049) (v1 : Int32) (v2 : Int32) : wpX_chanceTop (fun r u' => wpY_chanceTop (fun r' v' => r' = r ∧ i_Rel (k + 4) u' v') v v1 v2) u v1 v2 := by
  refine cf_el (Q := fun u v => wpX_chanceTop (fun r u' => wpY_chanceTop (fun r' v' => r' = r ∧ i_Rel (k + 4) u' v') v v1 v2) u v1 v2) I ?_
  intro N g mm nx sh f_c a_ac a_wc a_nx a_sh a_tb a_ro a_to a_bo a_bt a_bb a_wt a_wb f_m f_a b_mm b_nx b_sh b_pk b_gd b_tp b_bt W V U hc
  have hN := W.2.1
  have RI : i_Rel (k + 4) ((nI N), g, f_c, a_ac, a_wc, a_nx, a_sh, a_tb, a_ro, a_to, a_bo, a_bt, a_bb, a_wt, a_wb) ((nI N), g, f_m, f_a, b_mm, b_nx, b_sh, b_pk, b_gd, b_tp, b_bt) := cf_in W V U hc
  unfold wpX_chanceTop wpY_chanceTop
  dsimp only
  rcases cf_ix v1 hN with h | ⟨s, hs, rfl⟩
  · refine cf_X_good_f h (br_t rfl ?_)
    exact cf_Y_bad_t h (br_f (by decide) (And.intro rfl RI))
  · have hcl : (nI s).toNatClampNeg = s := cf_c (by omega)
    have hv : vp_in (nI s) 6 := cf_v (by omega)
    refine cf_X_good_t hN hs (br_f (by decide) ?_)
    by_cases h1 : v2 < 0
    · refine br_t h1 ?_
      refine cf_Y_bad_f hN hs (br_t rfl ?_)
      exact br_t h1 (br_f (by decide) (And.intro rfl RI))
    · refine br_f h1 ?_
      by_cases h2 : v2 < ((1 : Int32) <<< (nI N &&& 31))
      · obtain ⟨p, hp', rfl⟩ := nI_of h1
        have hp : p < 64 := by
          have h64 : (2 : Nat) ^ N ≤ 2 ^ 6 := Nat.pow_le_pow_right (by decide) hN
          have h3 := h2
          rw [cf_1N N (by omega)] at h3
          have := (nI_ltI hp' (by omega)).mp h3
          omega
        have hd := cf_dN_b (P := p) W
        have ha := cf_aN_b (P := p) W s
        refine br_t h2 (cf_X_solve W V hp (fun a_tb' a_ro' a_to' a_bo' hT => And.intro hv ?_))
        refine cf_Y_bad_f hN hs (br_t rfl ?_)
        refine br_f h1 (br_t h2 (br_t rfl (cf_Y_work W U hp (fun f_m' b_pk' b_gd' hA => And.intro hv ?_))))
        dsimp only
        rw [hcl, hA s hs, (hT s hs).1]
        exact cf_Y_top (by omega) hd.1 (by omega) (And.intro rfl (cf_in W V U hc))
      · refine br_f h2 ?_
        refine cf_Y_bad_f hN hs (br_t rfl ?_)
        exact br_f h1 (br_f h2 (br_f (by decide) (And.intro rfl RI)))
theorem i_vc_chanceBottom {k : Nat} {u : SX} {v : SY} (I : i_Rel k u v) (hk : k + 4 ≤ 2049) (v1 : Int32) (v2 : Int32) : wpX_chanceBottom (fun r u' => wpY_chanceBottom (fun r' v' => r' = r ∧ i_Rel (k + 4) u' v') v v1 v2) u v1 v2 := by
  refine cf_el (Q := fun u v => wpX_chanceBottom (fun r u' => wpY_chanceBottom (fun r' v' => r' = r ∧ i_Rel (k + 4) u' v') v v1 v2) u v1 v2) I ?_
  intro N g mm nx sh f_c a_ac a_wc a_nx a_sh a_tb a_ro a_to a_bo a_bt a_bb a_wt a_wb f_m f_a b_mm b_nx b_sh b_pk b_gd b_tp b_bt W V U hc
  have hN := W.2.1
  have RI : i_Rel (k + 4) ((nI N), g, f_c, a_ac, a_wc, a_nx, a_sh, a_tb, a_ro, a_to, a_bo, a_bt, a_bb, a_wt, a_wb) ((nI N), g, f_m, f_a, b_mm, b_nx, b_sh, b_pk, b_gd, b_tp, b_bt) := cf_in W V U hc
  unfold wpX_chanceBottom wpY_chanceBottom
  dsimp only
  rcases cf_ix v1 hN with h | ⟨s, hs, rfl⟩
  · refine cf_X_good_f h (br_t rfl ?_)
    exact cf_Y_bad_t h (br_f (by decide) (And.intro rfl RI))
  · have hcl : (nI s).toNatClampNeg = s := cf_c (by omega)
    have hv : vp_in (nI s) 6 := cf_v (by omega)
    refine cf_X_good_t hN hs (br_f (by decide) ?_)
    by_cases h1 : v2 < 0
    · refine br_t h1 ?_
      refine cf_Y_bad_f hN hs (br_t rfl ?_)
      exact br_t h1 (br_f (by decide) (And.intro rfl RI))
    · refine br_f h1 ?_
      by_cases h2 : v2 < ((1 : Int32) <<< (nI N &&& 31))
      · obtain ⟨p, hp', rfl⟩ := nI_of h1
        have hp : p < 64 := by
          have h64 : (2 : Nat) ^ N ≤ 2 ^ 6 := Nat.pow_le_pow_right (by decide) hN
          have h3 := h2
          rw [cf_1N N (by omega)] at h3
          have := (nI_ltI hp' (by omega)).mp h3
          omega
        have hd := cf_dN_b (P := p) W
        have ha := cf_aN_b (P := p) W s
        refine br_t h2 (cf_X_solve W V hp (fun a_tb' a_ro' a_to' a_bo' hT => And.intro hv ?_))
        refine cf_Y_bad_f hN hs (br_t rfl ?_)
        refine br_f h1 (br_t h2 (br_t rfl (cf_Y_work W U hp (fun f_m' b_pk' b_gd' hA => And.intro hv ?_))))
        dsimp only
        rw [hcl, hA s hs, (hT s hs).2]
        exact cf_Y_bottom (by omega) hd.1 (by omega) (And.intro rfl (cf_in W V U hc))
      · refine br_f h2 ?_
        refine cf_Y_bad_f hN hs (br_t rfl ?_)
        exact br_f h1 (br_f h2 (br_f (by decide) (And.intro rfl RI)))
theorem i_vc_bestTop {k : Nat} {u : SX} {v : SY} (I : i_Rel k u v) (hk : k + 4 ≤ 2049) (v1 : Int32) : wpX_bestTop (fun r u' => wpY_bestTop (fun r' v' => r' = r ∧ i_Rel (k + 4) u' v') v v1) u v1 := by
  refine cf_el (Q := fun u v => wpX_bestTop (fun r u' => wpY_bestTop (fun r' v' => r' = r ∧ i_Rel (k + 4) u' v') v v1) u v1) I ?_
  intro N g mm nx sh f_c a_ac a_wc a_nx a_sh a_tb a_ro a_to a_bo a_bt a_bb a_wt a_wb f_m f_a b_mm b_nx b_sh b_pk b_gd b_tp b_bt W V U hc
  have hN := W.2.1
  have RI : i_Rel (k + 4) ((nI N), g, f_c, a_ac, a_wc, a_nx, a_sh, a_tb, a_ro, a_to, a_bo, a_bt, a_bb, a_wt, a_wb) ((nI N), g, f_m, f_a, b_mm, b_nx, b_sh, b_pk, b_gd, b_tp, b_bt) := cf_in W V U hc
  unfold wpX_bestTop wpY_bestTop
  dsimp only
  rcases cf_ix v1 hN with h | ⟨s, hs, rfl⟩
  · refine cf_X_good_f h (br_t rfl ?_)
    exact cf_Y_bad_t h (br_f (by decide) (And.intro rfl RI))
  · have hcl : (nI s).toNatClampNeg = s := cf_c (by omega)
    have hv : vp_in (nI s) 6 := cf_v (by omega)
    refine cf_X_good_t hN hs (br_f (by decide) (cf_X_refresh W V hc (fun f_c' a_tb' a_ro' a_to' a_bo' a_bt' a_bb' a_wt' a_wb' hR => And.intro hv ?_)))
    refine cf_Y_bad_f hN hs (br_t rfl (cf_Y_gather W U true rfl (fun f_m' f_a' b_pk' b_gd' b_tp' b_bt' hY => And.intro hv (And.intro hv ?_))))
    obtain ⟨x, y, x1, x2, x3, x4⟩ := (hR s hs).1
    obtain ⟨p, q, y1, y2, y4⟩ := hY s hs
    have e := cf_red_eq x3 x4.1 y4.1 (cf_BV_eq W x4 y4)
    have b1 := y4.2.1
    have b2 := y4.2.2.1
    dsimp only
    rw [hcl, x1, y1, y2]
    exact cf_Y_top (by omega) y4.1 (by omega) (And.intro (congrArg lN e.1.symm) (cf_in W V U (Or.inr hR)))
theorem i_vc_bestBottom {k : Nat} {u : SX} {v : SY} (I : i_Rel k u v) (hk : k + 4 ≤ 2049) (v1 : Int32) : wpX_bestBottom (fun r u' => wpY_bestBottom (fun r' v' => r' = r ∧ i_Rel (k + 4) u' v') v v1) u v1 := by
  refine cf_el (Q := fun u v => wpX_bestBottom (fun r u' => wpY_bestBottom (fun r' v' => r' = r ∧ i_Rel (k + 4) u' v') v v1) u v1) I ?_
  intro N g mm nx sh f_c a_ac a_wc a_nx a_sh a_tb a_ro a_to a_bo a_bt a_bb a_wt a_wb f_m f_a b_mm b_nx b_sh b_pk b_gd b_tp b_bt W V U hc
  have hN := W.2.1
  have RI : i_Rel (k + 4) ((nI N), g, f_c, a_ac, a_wc, a_nx, a_sh, a_tb, a_ro, a_to, a_bo, a_bt, a_bb, a_wt, a_wb) ((nI N), g, f_m, f_a, b_mm, b_nx, b_sh, b_pk, b_gd, b_tp, b_bt) := cf_in W V U hc
  unfold wpX_bestBottom wpY_bestBottom
  dsimp only
  rcases cf_ix v1 hN with h | ⟨s, hs, rfl⟩
  · refine cf_X_good_f h (br_t rfl ?_)
    exact cf_Y_bad_t h (br_f (by decide) (And.intro rfl RI))
  · have hcl : (nI s).toNatClampNeg = s := cf_c (by omega)
    have hv : vp_in (nI s) 6 := cf_v (by omega)
    refine cf_X_good_t hN hs (br_f (by decide) (cf_X_refresh W V hc (fun f_c' a_tb' a_ro' a_to' a_bo' a_bt' a_bb' a_wt' a_wb' hR => And.intro hv ?_)))
    refine cf_Y_bad_f hN hs (br_t rfl (cf_Y_gather W U true rfl (fun f_m' f_a' b_pk' b_gd' b_tp' b_bt' hY => And.intro hv (And.intro hv ?_))))
    obtain ⟨x, y, x1, x2, x3, x4⟩ := (hR s hs).1
    obtain ⟨p, q, y1, y2, y4⟩ := hY s hs
    have e := cf_red_eq x3 x4.1 y4.1 (cf_BV_eq W x4 y4)
    have b1 := y4.2.1
    have b2 := y4.2.2.1
    dsimp only
    rw [hcl, x2, y1, y2]
    exact cf_Y_bottom (by omega) y4.1 (by omega) (And.intro (congrArg lN e.2.symm) (cf_in W V U (Or.inr hR)))
theorem i_vc_worstTop {k : Nat} {u : SX} {v : SY} (I : i_Rel k u v) (hk : k + 4 ≤ 2049) (v1 : Int32) : wpX_worstTop (fun r u' => wpY_worstTop (fun r' v' => r' = r ∧ i_Rel (k + 4) u' v') v v1) u v1 := by
  refine cf_el (Q := fun u v => wpX_worstTop (fun r u' => wpY_worstTop (fun r' v' => r' = r ∧ i_Rel (k + 4) u' v') v v1) u v1) I ?_
  intro N g mm nx sh f_c a_ac a_wc a_nx a_sh a_tb a_ro a_to a_bo a_bt a_bb a_wt a_wb f_m f_a b_mm b_nx b_sh b_pk b_gd b_tp b_bt W V U hc
  have hN := W.2.1
  have RI : i_Rel (k + 4) ((nI N), g, f_c, a_ac, a_wc, a_nx, a_sh, a_tb, a_ro, a_to, a_bo, a_bt, a_bb, a_wt, a_wb) ((nI N), g, f_m, f_a, b_mm, b_nx, b_sh, b_pk, b_gd, b_tp, b_bt) := cf_in W V U hc
  unfold wpX_worstTop wpY_worstTop
  dsimp only
  rcases cf_ix v1 hN with h | ⟨s, hs, rfl⟩
  · refine cf_X_good_f h (br_t rfl ?_)
    exact cf_Y_bad_t h (br_f (by decide) (And.intro rfl RI))
  · have hcl : (nI s).toNatClampNeg = s := cf_c (by omega)
    have hv : vp_in (nI s) 6 := cf_v (by omega)
    refine cf_X_good_t hN hs (br_f (by decide) (cf_X_refresh W V hc (fun f_c' a_tb' a_ro' a_to' a_bo' a_bt' a_bb' a_wt' a_wb' hR => And.intro hv ?_)))
    refine cf_Y_bad_f hN hs (br_t rfl (cf_Y_gather W U false rfl (fun f_m' f_a' b_pk' b_gd' b_tp' b_bt' hY => And.intro hv (And.intro hv ?_))))
    obtain ⟨x, y, x1, x2, x3, x4⟩ := (hR s hs).2
    obtain ⟨p, q, y1, y2, y4⟩ := hY s hs
    have e := cf_red_eq x3 x4.1 y4.1 (cf_BV_eq W x4 y4)
    have b1 := y4.2.1
    have b2 := y4.2.2.1
    dsimp only
    rw [hcl, x1, y1, y2]
    exact cf_Y_top (by omega) y4.1 (by omega) (And.intro (congrArg lN e.1.symm) (cf_in W V U (Or.inr hR)))
theorem i_vc_worstBottom {k : Nat} {u : SX} {v : SY} (I : i_Rel k u v) (hk : k + 4 ≤ 2049) (v1 : Int32) : wpX_worstBottom (fun r u' => wpY_worstBottom (fun r' v' => r' = r ∧ i_Rel (k + 4) u' v') v v1) u v1 := by
  refine cf_el (Q := fun u v => wpX_worstBottom (fun r u' => wpY_worstBottom (fun r' v' => r' = r ∧ i_Rel (k + 4) u' v') v v1) u v1) I ?_
  intro N g mm nx sh f_c a_ac a_wc a_nx a_sh a_tb a_ro a_to a_bo a_bt a_bb a_wt a_wb f_m f_a b_mm b_nx b_sh b_pk b_gd b_tp b_bt W V U hc
  have hN := W.2.1
  have RI : i_Rel (k + 4) ((nI N), g, f_c, a_ac, a_wc, a_nx, a_sh, a_tb, a_ro, a_to, a_bo, a_bt, a_bb, a_wt, a_wb) ((nI N), g, f_m, f_a, b_mm, b_nx, b_sh, b_pk, b_gd, b_tp, b_bt) := cf_in W V U hc
  unfold wpX_worstBottom wpY_worstBottom
  dsimp only
  rcases cf_ix v1 hN with h | ⟨s, hs, rfl⟩
  · refine cf_X_good_f h (br_t rfl ?_)
    exact cf_Y_bad_t h (br_f (by decide) (And.intro rfl RI))
  · have hcl : (nI s).toNatClampNeg = s := cf_c (by omega)
    have hv : vp_in (nI s) 6 := cf_v (by omega)
    refine cf_X_good_t hN hs (br_f (by decide) (cf_X_refresh W V hc (fun f_c' a_tb' a_ro' a_to' a_bo' a_bt' a_bb' a_wt' a_wb' hR => And.intro hv ?_)))
    refine cf_Y_bad_f hN hs (br_t rfl (cf_Y_gather W U false rfl (fun f_m' f_a' b_pk' b_gd' b_tp' b_bt' hY => And.intro hv (And.intro hv ?_))))
    obtain ⟨x, y, x1, x2, x3, x4⟩ := (hR s hs).2
    obtain ⟨p, q, y1, y2, y4⟩ := hY s hs
    have e := cf_red_eq x3 x4.1 y4.1 (cf_BV_eq W x4 y4)
    have b1 := y4.2.1
    have b2 := y4.2.2.1
    dsimp only
    rw [hcl, x2, y1, y2]
    exact cf_Y_bottom (by omega) y4.1 (by omega) (And.intro (congrArg lN e.2.symm) (cf_in W V U (Or.inr hR)))
/-- the set of the states with c -/
def cf_fs (c : Nat → Bool) : Nat → Int32
  | 0 => 0
  | s + 1 => if c s = true then cf_fs c s ||| cf_bit s else cf_fs c s
theorem cf_X_sure {N : Nat} {g : Int32} {f_c : Int32} {a_ac : Nat → Int32} {a_wc : Nat → Int32} {a_nx : Nat → Int32} {a_sh : Nat → Int32} {a_tb : Nat → Int64} {a_ro : Nat → Int32} {a_to : Nat → Int64} {a_bo : Nat → Int64} {a_bt : Nat → Int64} {a_bb : Nat → Int64} {a_wt : Nat → Int64} {a_wb : Nat → Int64} {c : Nat → Bool} (hN : N ≤ 6) {post : Int32 → SX → Prop} (h : ∀ s, s < N → (a_bt s = a_bb s ↔ c s = true)) (K : post (cf_fs c N) ((nI N), g, f_c, a_ac, a_wc, a_nx, a_sh, a_tb, a_ro, a_to, a_bo, a_bt, a_bb, a_wt, a_wb)) :
    ∀ (d s n : Nat), s + d = N → d < n → wX_sure_8 post (nI N) g f_c a_ac a_wc a_nx a_sh a_tb a_ro a_to a_bo a_bt a_bb a_wt a_wb n (cf_fs c s) (nI s) := by
  intro d
  induction d with
  | zero =>
    intro s n hs hn
    cases n with
    | zero => omega
    | succ n =>
      have e : s = N := by omega
      subst e
      exact br_t (nI_le (by omega) (by omega)) K
  | succ d ih =>
    intro s n hs hn
    cases n with
    | zero => omega
    | succ n =>
      have ih' := ih (s + 1) n (by omega) (by omega)
      unfold cf_fs at ih'
      have hcl : (nI s).toNatClampNeg = s := cf_c (by omega)
      refine br_f (nI_ge (by omega) (by omega)) ((And.intro (cf_v (by omega)) (And.intro (cf_v (by omega)) ?_)))
      rw [hcl]
      by_cases hcs : c s = true
      · rw [if_pos hcs] at ih'
        exact br_t ((h s (by omega)).mpr hcs) (nm_r (e' := cf_fs c s ||| cf_bit s) rfl (nm_r (nI_1 s) ih'))
      · rw [if_neg hcs] at ih'
        exact br_f (fun e => hcs ((h s (by omega)).mp e)) (nm_r (cf_or0 _) (nm_r (nI_1 s) ih'))
theorem cf_X_hopeless {N : Nat} {g : Int32} {f_c : Int32} {a_ac : Nat → Int32} {a_wc : Nat → Int32} {a_nx : Nat → Int32} {a_sh : Nat → Int32} {a_tb : Nat → Int64} {a_ro : Nat → Int32} {a_to : Nat → Int64} {a_bo : Nat → Int64} {a_bt : Nat → Int64} {a_bb : Nat → Int64} {a_wt : Nat → Int64} {a_wb : Nat → Int64} {c : Nat → Bool} (hN : N ≤ 6) {post : Int32 → SX → Prop} (h : ∀ s, s < N → (a_bt s = 0 ↔ c s = true)) (K : post (cf_fs c N) ((nI N), g, f_c, a_ac, a_wc, a_nx, a_sh, a_tb, a_ro, a_to, a_bo, a_bt, a_bb, a_wt, a_wb)) :
    ∀ (d s n : Nat), s + d = N → d < n → wX_hopeless_8 post (nI N) g f_c a_ac a_wc a_nx a_sh a_tb a_ro a_to a_bo a_bt a_bb a_wt a_wb n (cf_fs c s) (nI s) := by
  intro d
  induction d with
  | zero =>
    intro s n hs hn
    cases n with
    | zero => omega
    | succ n =>
      have e : s = N := by omega
      subst e
      exact br_t (nI_le (by omega) (by omega)) K
  | succ d ih =>
    intro s n hs hn
    cases n with
    | zero => omega
    | succ n =>
      have ih' := ih (s + 1) n (by omega) (by omega)
      unfold cf_fs at ih'
      have hcl : (nI s).toNatClampNeg = s := cf_c (by omega)
      refine br_f (nI_ge (by omega) (by omega)) ((And.intro (cf_v (by omega)) ?_))
      rw [hcl]
      by_cases hcs : c s = true
      · rw [if_pos hcs] at ih'
        exact br_t ((h s (by omega)).mpr hcs) (nm_r (e' := cf_fs c s ||| cf_bit s) rfl (nm_r (nI_1 s) ih'))
      · rw [if_neg hcs] at ih'
        exact br_f (fun e => hcs ((h s (by omega)).mp e)) (nm_r (cf_or0 _) (nm_r (nI_1 s) ih'))
theorem cf_X_forced {N : Nat} {g : Int32} {f_c : Int32} {a_ac : Nat → Int32} {a_wc : Nat → Int32} {a_nx : Nat → Int32} {a_sh : Nat → Int32} {a_tb : Nat → Int64} {a_ro : Nat → Int32} {a_to : Nat → Int64} {a_bo : Nat → Int64} {a_bt : Nat → Int64} {a_bb : Nat → Int64} {a_wt : Nat → Int64} {a_wb : Nat → Int64} {c : Nat → Bool} (hN : N ≤ 6) {post : Int32 → SX → Prop} (h : ∀ s, s < N → (¬ a_wt s ≤ 0 ↔ c s = true)) (K : post (cf_fs c N) ((nI N), g, f_c, a_ac, a_wc, a_nx, a_sh, a_tb, a_ro, a_to, a_bo, a_bt, a_bb, a_wt, a_wb)) :
    ∀ (d s n : Nat), s + d = N → d < n → wX_forced_8 post (nI N) g f_c a_ac a_wc a_nx a_sh a_tb a_ro a_to a_bo a_bt a_bb a_wt a_wb n (cf_fs c s) (nI s) := by
  intro d
  induction d with
  | zero =>
    intro s n hs hn
    cases n with
    | zero => omega
    | succ n =>
      have e : s = N := by omega
      subst e
      exact br_t (nI_le (by omega) (by omega)) K
  | succ d ih =>
    intro s n hs hn
    cases n with
    | zero => omega
    | succ n =>
      have ih' := ih (s + 1) n (by omega) (by omega)
      unfold cf_fs at ih'
      have hcl : (nI s).toNatClampNeg = s := cf_c (by omega)
      refine br_f (nI_ge (by omega) (by omega)) ((And.intro (cf_v (by omega)) ?_))
      rw [hcl]
      by_cases hcs : c s = true
      · rw [if_pos hcs] at ih'
        exact br_f ((h s (by omega)).mpr hcs) (nm_r (e' := cf_fs c s ||| cf_bit s) rfl (nm_r (nI_1 s) ih'))
      · rw [if_neg hcs] at ih'
        exact br_t (Classical.byContradiction (fun e => hcs ((h s (by omega)).mp e))) (nm_r (cf_or0 _) (nm_r (nI_1 s) ih'))
theorem cf_Y_sure {N : Nat} {g : Int32} {f_m : Int32} {f_a : Int64} {a_mm : Nat → Int32} {a_nx : Nat → Int32} {a_sh : Nat → Int32} {a_pk : Nat → Int32} {a_gd : Nat → Int64} {a_tp : Nat → Int64} {a_bt : Nat → Int64} {c : Nat → Bool} (hN : N ≤ 6) {post : Int32 → SY → Prop} (h : ∀ s, s < N → (a_tp s = a_bt s ↔ c s = true)) (K : post (cf_fs c N) ((nI N), g, f_m, f_a, a_mm, a_nx, a_sh, a_pk, a_gd, a_tp, a_bt)) :
    ∀ (d s n : Nat), s + d = N → d < n → wY_sure_9 post (nI N) g f_m f_a a_mm a_nx a_sh a_pk a_gd a_tp a_bt n (cf_fs c s) (nI s) := by
  intro d
  induction d with
  | zero =>
    intro s n hs hn
    cases n with
    | zero => omega
    | succ n =>
      have e : s = N := by omega
      subst e
      exact br_t (nI_le (by omega) (by omega)) K
  | succ d ih =>
    intro s n hs hn
    cases n with
    | zero => omega
    | succ n =>
      have ih' := ih (s + 1) n (by omega) (by omega)
      unfold cf_fs at ih'
      have hcl : (nI s).toNatClampNeg = s := cf_c (by omega)
      refine br_f (nI_ge (by omega) (by omega)) (br_f (nI_ge (a := s) (b := 6) (by omega) (by omega)) (And.intro (cf_v (by omega)) (And.intro (cf_v (by omega)) ?_)))
      rw [hcl]
      by_cases hcs : c s = true
      · rw [if_pos hcs] at ih'
        exact br_t ((h s (by omega)).mpr hcs) (nm_r (e' := cf_fs c s ||| cf_bit s) rfl (nm_r (nI_1 s) ih'))
      · rw [if_neg hcs] at ih'
        exact br_f (fun e => hcs ((h s (by omega)).mp e)) (nm_r (nI_1 s) ih')
theorem cf_Y_hopeless {N : Nat} {g : Int32} {f_m : Int32} {f_a : Int64} {a_mm : Nat → Int32} {a_nx : Nat → Int32} {a_sh : Nat → Int32} {a_pk : Nat → Int32} {a_gd : Nat → Int64} {a_tp : Nat → Int64} {a_bt : Nat → Int64} {c : Nat → Bool} (hN : N ≤ 6) {post : Int32 → SY → Prop} (h : ∀ s, s < N → (a_tp s = 0 ↔ c s = true)) (K : post (cf_fs c N) ((nI N), g, f_m, f_a, a_mm, a_nx, a_sh, a_pk, a_gd, a_tp, a_bt)) :
    ∀ (d s n : Nat), s + d = N → d < n → wY_hopeless_9 post (nI N) g f_m f_a a_mm a_nx a_sh a_pk a_gd a_tp a_bt n (cf_fs c s) (nI s) := by
  intro d
  induction d with
  | zero =>
    intro s n hs hn
    cases n with
    | zero => omega
    | succ n =>
      have e : s = N := by omega
      subst e
      exact br_t (nI_le (by omega) (by omega)) K
  | succ d ih =>
    intro s n hs hn
    cases n with
    | zero => omega
    | succ n =>
      have ih' := ih (s + 1) n (by omega) (by omega)
      unfold cf_fs at ih'
      have hcl : (nI s).toNatClampNeg = s := cf_c (by omega)
      refine br_f (nI_ge (by omega) (by omega)) (br_f (nI_ge (a := s) (b := 6) (by omega) (by omega)) (And.intro (cf_v (by omega)) ?_))
      rw [hcl]
      by_cases hcs : c s = true
      · rw [if_pos hcs] at ih'
        exact br_t ((h s (by omega)).mpr hcs) (nm_r (e' := cf_fs c s ||| cf_bit s) rfl (nm_r (nI_1 s) ih'))
      · rw [if_neg hcs] at ih'
        exact br_f (fun e => hcs ((h s (by omega)).mp e)) (nm_r (nI_1 s) ih')
theorem cf_Y_forced {N : Nat} {g : Int32} {f_m : Int32} {f_a : Int64} {a_mm : Nat → Int32} {a_nx : Nat → Int32} {a_sh : Nat → Int32} {a_pk : Nat → Int32} {a_gd : Nat → Int64} {a_tp : Nat → Int64} {a_bt : Nat → Int64} {c : Nat → Bool} (hN : N ≤ 6) {post : Int32 → SY → Prop} (h : ∀ s, s < N → (¬ a_tp s ≤ 0 ↔ c s = true)) (K : post (cf_fs c N) ((nI N), g, f_m, f_a, a_mm, a_nx, a_sh, a_pk, a_gd, a_tp, a_bt)) :
    ∀ (d s n : Nat), s + d = N → d < n → wY_forced_9 post (nI N) g f_m f_a a_mm a_nx a_sh a_pk a_gd a_tp a_bt n (cf_fs c s) (nI s) := by
  intro d
  induction d with
  | zero =>
    intro s n hs hn
    cases n with
    | zero => omega
    | succ n =>
      have e : s = N := by omega
      subst e
      exact br_t (nI_le (by omega) (by omega)) K
  | succ d ih =>
    intro s n hs hn
    cases n with
    | zero => omega
    | succ n =>
      have ih' := ih (s + 1) n (by omega) (by omega)
      unfold cf_fs at ih'
      have hcl : (nI s).toNatClampNeg = s := cf_c (by omega)
      refine br_f (nI_ge (by omega) (by omega)) (br_f (nI_ge (a := s) (b := 6) (by omega) (by omega)) (And.intro (cf_v (by omega)) ?_))
      rw [hcl]
      by_cases hcs : c s = true
      · rw [if_pos hcs] at ih'
        exact br_f ((h s (by omega)).mpr hcs) (nm_r (e' := cf_fs c s ||| cf_bit s) rfl (nm_r (nI_1 s) ih'))
      · rw [if_neg hcs] at ih'
        exact br_t (Classical.byContradiction (fun e => hcs ((h s (by omega)).mp e))) (nm_r (nI_1 s) ih')
theorem i_vc_sure {k : Nat} {u : SX} {v : SY} (I : i_Rel k u v) (hk : k + 4 ≤ 2049) : wpX_sure (fun r u' => wpY_sure (fun r' v' => r' = r ∧ i_Rel (k + 4) u' v') v) u := by
  refine cf_el (Q := fun u v => wpX_sure (fun r u' => wpY_sure (fun r' v' => r' = r ∧ i_Rel (k + 4) u' v') v) u) I ?_
  intro N g mm nx sh f_c a_ac a_wc a_nx a_sh a_tb a_ro a_to a_bo a_bt a_bb a_wt a_wb f_m f_a b_mm b_nx b_sh b_pk b_gd b_tp b_bt W V U hc
  have hN := W.2.1
  have RI : i_Rel (k + 4) ((nI N), g, f_c, a_ac, a_wc, a_nx, a_sh, a_tb, a_ro, a_to, a_bo, a_bt, a_bb, a_wt, a_wb) ((nI N), g, f_m, f_a, b_mm, b_nx, b_sh, b_pk, b_gd, b_tp, b_bt) := cf_in W V U hc
  unfold wpX_sure wpY_sure
  dsimp only
  refine cf_X_refresh W V hc (fun f_c' a_tb' a_ro' a_to' a_bo' a_bt' a_bb' a_wt' a_wb' hR => ⟨N + 1, ?_⟩)
  refine cf_X_sure (c := fun s => decide (a_bt' s = a_bb' s)) hN (fun s _ => (decide_eq_true_iff (p := a_bt' s = a_bb' s)).symm) ?_ N 0 _ (by omega) (by omega)
  refine cf_Y_gather W U true rfl (fun f_m' f_a' b_pk' b_gd' b_tp' b_bt' hY => ⟨N + 1, ?_⟩)
  refine cf_Y_sure (c := fun s => decide (a_bt' s = a_bb' s)) hN (fun s hs => ?_) (And.intro rfl (cf_in W V U (Or.inr hR))) N 0 _ (by omega) (by omega)
  · obtain ⟨x, y, x1, x2, x3, x4⟩ := (hR s hs).1
    obtain ⟨p, q, y1, y2, y4⟩ := hY s hs
    have e := cf_BV_eq W x4 y4
    have b1 := x4.2.1
    have b2 := x4.2.2.1
    have b3 := y4.2.1
    have b4 := y4.2.2.1
    have c1 := x4.1
    have c2 := y4.1
    show b_tp' s = b_bt' s ↔ decide (a_bt' s = a_bb' s) = true
    rw [decide_eq_true_eq, x1, x2, y1, y2, pk_lEQ (by omega) (by omega), pk_lEQ (by omega) (by omega)]
    constructor
    · intro h
      subst h
      exact Nat.eq_of_mul_eq_mul_right c2 (e.trans (Nat.mul_comm _ _))
    · intro h
      subst h
      exact Nat.eq_of_mul_eq_mul_right c1 (e.symm.trans (Nat.mul_comm _ _))
theorem i_vc_hopeless {k : Nat} {u : SX} {v : SY} (I : i_Rel k u v) (hk : k + 4 ≤ 2049) : wpX_hopeless (fun r u' => wpY_hopeless (fun r' v' => r' = r ∧ i_Rel (k + 4) u' v') v) u := by
  refine cf_el (Q := fun u v => wpX_hopeless (fun r u' => wpY_hopeless (fun r' v' => r' = r ∧ i_Rel (k + 4) u' v') v) u) I ?_
  intro N g mm nx sh f_c a_ac a_wc a_nx a_sh a_tb a_ro a_to a_bo a_bt a_bb a_wt a_wb f_m f_a b_mm b_nx b_sh b_pk b_gd b_tp b_bt W V U hc
  have hN := W.2.1
  have RI : i_Rel (k + 4) ((nI N), g, f_c, a_ac, a_wc, a_nx, a_sh, a_tb, a_ro, a_to, a_bo, a_bt, a_bb, a_wt, a_wb) ((nI N), g, f_m, f_a, b_mm, b_nx, b_sh, b_pk, b_gd, b_tp, b_bt) := cf_in W V U hc
  unfold wpX_hopeless wpY_hopeless
  dsimp only
  refine cf_X_refresh W V hc (fun f_c' a_tb' a_ro' a_to' a_bo' a_bt' a_bb' a_wt' a_wb' hR => ⟨N + 1, ?_⟩)
  refine cf_X_hopeless (c := fun s => decide (a_bt' s = 0)) hN (fun s _ => (decide_eq_true_iff (p := a_bt' s = 0)).symm) ?_ N 0 _ (by omega) (by omega)
  refine cf_Y_gather W U true rfl (fun f_m' f_a' b_pk' b_gd' b_tp' b_bt' hY => ⟨N + 1, ?_⟩)
  refine cf_Y_hopeless (c := fun s => decide (a_bt' s = 0)) hN (fun s hs => ?_) (And.intro rfl (cf_in W V U (Or.inr hR))) N 0 _ (by omega) (by omega)
  · obtain ⟨x, y, x1, x2, x3, x4⟩ := (hR s hs).1
    obtain ⟨p, q, y1, y2, y4⟩ := hY s hs
    have e := cf_BV_eq W x4 y4
    have b1 := x4.2.1
    have b2 := x4.2.2.1
    have b3 := y4.2.1
    have b4 := y4.2.2.1
    have c1 := x4.1
    have c2 := y4.1
    show b_tp' s = 0 ↔ decide (a_bt' s = 0) = true
    rw [decide_eq_true_eq, x1, y1, cf_lN0 (by omega), cf_lN0 (by omega)]
    constructor
    · intro h
      subst h
      rw [Nat.zero_mul] at e
      rcases Nat.mul_eq_zero.mp e with e1 | e1 <;> omega
    · intro h
      subst h
      rw [Nat.zero_mul] at e
      rcases Nat.mul_eq_zero.mp e.symm with e1 | e1 <;> omega
theorem cf_lle0 {x : Nat} (h : x < 2 ^ 62) : lN x ≤ 0 ↔ x = 0 := by
  rw [show (0 : Int64) = lN 0 from rfl, pk_lLE (by omega) (by omega)]; omega
theorem i_vc_forced {k : Nat} {u : SX} {v : SY} (I : i_Rel k u v) (hk : k + 4 ≤ 2049) : wpX_forced (fun r u' => wpY_forced (fun r' v' => r' = r ∧ i_Rel (k + 4) u' v') v) u := by
  refine cf_el (Q := fun u v => wpX_forced (fun r u' => wpY_forced (fun r' v' => r' = r ∧ i_Rel (k + 4) u' v') v) u) I ?_
  intro N g mm nx sh f_c a_ac a_wc a_nx a_sh a_tb a_ro a_to a_bo a_bt a_bb a_wt a_wb f_m f_a b_mm b_nx b_sh b_pk b_gd b_tp b_bt W V U hc
  have hN := W.2.1
  have RI : i_Rel (k + 4) ((nI N), g, f_c, a_ac, a_wc, a_nx, a_sh, a_tb, a_ro, a_to, a_bo, a_bt, a_bb, a_wt, a_wb) ((nI N), g, f_m, f_a, b_mm, b_nx, b_sh, b_pk, b_gd, b_tp, b_bt) := cf_in W V U hc
  unfold wpX_forced wpY_forced
  dsimp only
  refine cf_X_refresh W V hc (fun f_c' a_tb' a_ro' a_to' a_bo' a_bt' a_bb' a_wt' a_wb' hR => ⟨N + 1, ?_⟩)
  refine cf_X_forced (c := fun s => decide (¬ a_wt' s ≤ 0)) hN (fun s _ => (decide_eq_true_iff (p := ¬ a_wt' s ≤ 0)).symm) ?_ N 0 _ (by omega) (by omega)
  refine cf_Y_gather W U false rfl (fun f_m' f_a' b_pk' b_gd' b_tp' b_bt' hY => ⟨N + 1, ?_⟩)
  refine cf_Y_forced (c := fun s => decide (¬ a_wt' s ≤ 0)) hN (fun s hs => ?_) (And.intro rfl (cf_in W V U (Or.inr hR))) N 0 _ (by omega) (by omega)
  · obtain ⟨x, y, x1, x2, x3, x4⟩ := (hR s hs).2
    obtain ⟨p, q, y1, y2, y4⟩ := hY s hs
    have e := cf_BV_eq W x4 y4
    have b1 := x4.2.1
    have b2 := x4.2.2.1
    have b3 := y4.2.1
    have b4 := y4.2.2.1
    have c1 := x4.1
    have c2 := y4.1
    show ¬ b_tp' s ≤ 0 ↔ decide (¬ a_wt' s ≤ 0) = true
    rw [decide_eq_true_eq, x1, y1, cf_lle0 (by omega), cf_lle0 (by omega)]
    refine not_congr ?_
    constructor
    · intro h
      subst h
      rw [Nat.zero_mul] at e
      rcases Nat.mul_eq_zero.mp e with e1 | e1 <;> omega
    · intro h
      subst h
      rw [Nat.zero_mul] at e
      rcases Nat.mul_eq_zero.mp e.symm with e1 | e1 <;> omega
theorem cf_cmp2 {x y p q x' y' p' q' : Nat} (hy : 0 < y) (hq : 0 < q) (hy' : 0 < y') (hq' : 0 < q') (e1 : x * y' = x' * y) (e2 : p * q' = p' * q) : (x * q ≤ p * y ↔ x' * q' ≤ p' * y') := by
  have k1 : x * q * (y' * q') = x' * q' * (y * q) := by
    have a1 : x * q * (y' * q') = (x * y') * (q * q') := by ac_rfl
    have a2 : x' * q' * (y * q) = (x' * y) * (q * q') := by ac_rfl
    rw [a1, a2, e1]
  have k2 : p * y * (y' * q') = p' * y' * (y * q) := by
    have a1 : p * y * (y' * q') = (p * q') * (y * y') := by ac_rfl
    have a2 : p' * y' * (y * q) = (p' * q) * (y * y') := by ac_rfl
    rw [a1, a2, e2]
  have h1 : 0 < y' * q' := Nat.mul_pos hy' hq'
  have h2 : 0 < y * q := Nat.mul_pos hy hq
  constructor
  · intro h
    have h3 := Nat.mul_le_mul_right (y' * q') h
    rw [k1, k2] at h3
    exact Nat.le_of_mul_le_mul_right h3 h2
  · intro h
    have h3 := Nat.mul_le_mul_right (y * q) h
    rw [← k1, ← k2] at h3
    exact Nat.le_of_mul_le_mul_right h3 h1
theorem cf_sub64 {a b : Nat} (ha : a < 2 ^ 62) (hb : b < 2 ^ 62) : (lN a - lN b).toInt = (a : Int) - b := by
  rw [← cf_lNi, ← cf_lNi, ← Int64.ofInt_sub, Int64.toInt_ofInt_of_le (by omega) (by omega)]
theorem cf_b57 {a b : Nat} (ha : a ≤ 387420489) (hb : b ≤ 387420489) : a * b < 2 ^ 62 := by
  have := Nat.mul_le_mul ha hb
  omega
theorem i_vc_compare {k : Nat} {u : SX} {v : SY} (I : i_Rel k u v) (hk : k + 4 ≤ 2049) (v1 : Int32) (v2 : Int32) : wpX_compare (fun r u' => wpY_compare (fun r' v' => r' = r ∧ i_Rel (k + 4) u' v') v v1 v2) u v1 v2 := by
  refine cf_el (Q := fun u v => wpX_compare (fun r u' => wpY_compare (fun r' v' => r' = r ∧ i_Rel (k + 4) u' v') v v1 v2) u v1 v2) I ?_
  intro N g mm nx sh f_c a_ac a_wc a_nx a_sh a_tb a_ro a_to a_bo a_bt a_bb a_wt a_wb f_m f_a b_mm b_nx b_sh b_pk b_gd b_tp b_bt W V U hc
  have hN := W.2.1
  have RI : i_Rel (k + 4) ((nI N), g, f_c, a_ac, a_wc, a_nx, a_sh, a_tb, a_ro, a_to, a_bo, a_bt, a_bb, a_wt, a_wb) ((nI N), g, f_m, f_a, b_mm, b_nx, b_sh, b_pk, b_gd, b_tp, b_bt) := cf_in W V U hc
  unfold wpX_compare wpY_compare
  dsimp only
  rcases cf_ix v1 hN with h | ⟨s, hs, rfl⟩
  · refine cf_X_good_f h (br_t rfl ?_)
    exact cf_Y_bad_t h (br_f (by decide) (And.intro rfl RI))
  · refine cf_X_good_t hN hs (br_f (by decide) ?_)
    rcases cf_ix v2 hN with h | ⟨t, ht, rfl⟩
    · refine cf_X_good_f h (br_t rfl ?_)
      refine cf_Y_bad_f hN hs (br_t rfl ?_)
      exact cf_Y_bad_t h (br_f (by decide) (And.intro rfl RI))
    · have hcs : (nI s).toNatClampNeg = s := cf_c (by omega)
      have hct : (nI t).toNatClampNeg = t := cf_c (by omega)
      have hvs : vp_in (nI s) 6 := cf_v (by omega)
      have hvt : vp_in (nI t) 6 := cf_v (by omega)
      refine cf_X_good_t hN ht (br_f (by decide) (cf_X_refresh W V hc (fun f_c' a_tb' a_ro' a_to' a_bo' a_bt' a_bb' a_wt' a_wb' hR => And.intro hvs (And.intro hvt (And.intro hvt (And.intro hvs ?_))))))
      obtain ⟨x, y, x1, x2, x3, x4⟩ := (hR s hs).1
      obtain ⟨p, q, p1, p2, p3, p4⟩ := (hR t ht).1
      have RR : ∀ (f_m' : Int32) (f_a' : Int64) (b_pk' : Nat → Int32) (b_gd' b_tp' b_bt' : Nat → Int64), i_Rel (k + 4) ((nI N), g, f_c', a_ac, a_wc, a_nx, a_sh, a_tb', a_ro', a_to', a_bo', a_bt', a_bb', a_wt', a_wb') ((nI N), g, f_m', f_a', b_mm, b_nx, b_sh, b_pk', b_gd', b_tp', b_bt') := fun _ _ _ _ _ _ => cf_in W V U (Or.inr hR)
      have B1 := cf_b57 x4.2.1 p4.2.2.1
      have B2 := cf_b57 p4.2.1 x4.2.2.1
      have T := cf_sub64 B1 B2
      have T0 : (0 : Int64).toInt = 0 := by decide
      refine nm_r (e' := lN (x * q) - lN (p * y)) (by dsimp only; rw [hcs, hct, x1, x2, p1, p2, lN_mul, lN_mul]) ?_
      -- the reference
      have yy : ∀ r : Int32, (r = if x * q ≤ p * y then (if p * y ≤ x * q then 0 else 2) else 1) → wpY_bad (fun r_1 => (((r_1 = 0 → (wpY_bad (fun r_14 => (((r_14 = 0 → (wpY_gather (fun u => match u with | (f_n_28, f_goals_29, f_m, f_a, b_mm, b_nx, b_sh, b_pk, b_gd, b_tp, b_bt) => (vp_in (nI s) 6 ∧ (vp_in (nI t) 6 ∧ (∀ x3_41 : Int64, x3_41 = (b_tp (nI s).toNatClampNeg) * (b_bt (nI t).toNatClampNeg) → (vp_in (nI t) 6 ∧ (vp_in (nI s) 6 ∧ (∀ x5_44 : Int64, x5_44 = (b_tp (nI t).toNatClampNeg) * (b_bt (nI s).toNatClampNeg) → (((x3_41 ≤ x5_44 → (((x5_44 ≤ x3_41 → ((0 : Int32) = r ∧ i_Rel (k + 4) ((nI N), g, f_c', a_ac, a_wc, a_nx, a_sh, a_tb', a_ro', a_to', a_bo', a_bt', a_bb', a_wt', a_wb') (f_n_28, f_goals_29, f_m, f_a, b_mm, b_nx, b_sh, b_pk, b_gd, b_tp, b_bt))) ∧ (¬ x5_44 ≤ x3_41 → ((2 : Int32) = r ∧ i_Rel (k + 4) ((nI N), g, f_c', a_ac, a_wc, a_nx, a_sh, a_tb', a_ro', a_to', a_bo', a_bt', a_bb', a_wt', a_wb') (f_n_28, f_goals_29, f_m, f_a, b_mm, b_nx, b_sh, b_pk, b_gd, b_tp, b_bt)))))) ∧ (¬ x3_41 ≤ x5_44 → ((1 : Int32) = r ∧ i_Rel (k + 4) ((nI N), g, f_c', a_ac, a_wc, a_nx, a_sh, a_tb', a_ro', a_to', a_bo', a_bt', a_bb', a_wt', a_wb') (f_n_28, f_goals_29, f_m, f_a, b_mm, b_nx, b_sh, b_pk, b_gd, b_tp, b_bt)))))))))))) ((nI N), g, f_m, f_a, b_mm, b_nx, b_sh, b_pk, b_gd, b_tp, b_bt) 1)) ∧ (¬ r_14 = 0 → ((-1 : Int32) = r ∧ i_Rel (k + 4) ((nI N), g, f_c', a_ac, a_wc, a_nx, a_sh, a_tb', a_ro', a_to', a_bo', a_bt', a_bb', a_wt', a_wb') ((nI N), g, f_m, f_a, b_mm, b_nx, b_sh, b_pk, b_gd, b_tp, b_bt)))))) ((nI N), g, f_m, f_a, b_mm, b_nx, b_sh, b_pk, b_gd, b_tp, b_bt) (nI t))) ∧ (¬ r_1 = 0 → ((-1 : Int32) = r ∧ i_Rel (k + 4) ((nI N), g, f_c', a_ac, a_wc, a_nx, a_sh, a_tb', a_ro', a_to', a_bo', a_bt', a_bb', a_wt', a_wb') ((nI N), g, f_m, f_a, b_mm, b_nx, b_sh, b_pk, b_gd, b_tp, b_bt)))))) ((nI N), g, f_m, f_a, b_mm, b_nx, b_sh, b_pk, b_gd, b_tp, b_bt) (nI s) := by
        intro r hr
        refine cf_Y_bad_f hN hs (br_t rfl ?_)
        refine cf_Y_bad_f hN ht (br_t rfl (cf_Y_gather W U true rfl (fun f_m' f_a' b_pk' b_gd' b_tp' b_bt' hY => And.intro hvs (And.intro hvt ?_))))
        obtain ⟨x', y', y1, y2, y4⟩ := hY s hs
        obtain ⟨p', q', q1, q2, q4⟩ := hY t ht
        have D1 := cf_b57 y4.2.1 q4.2.2.1
        have D2 := cf_b57 q4.2.1 y4.2.2.1
        have C1 := cf_cmp2 x4.1 p4.1 y4.1 q4.1 (cf_BV_eq W x4 y4) (cf_BV_eq W p4 q4)
        have C2 := cf_cmp2 p4.1 x4.1 q4.1 y4.1 (cf_BV_eq W p4 q4) (cf_BV_eq W x4 y4)
        refine nm_r (e' := lN (x' * q')) (by rw [hcs, hct, y1, q2, lN_mul]) (And.intro hvt (And.intro hvs (nm_r (e' := lN (p' * y')) (by rw [hcs, hct, q1, y2, lN_mul]) ?_)))
        by_cases h1 : x * q ≤ p * y
        · rw [if_pos h1] at hr
          refine br_t ((pk_lLE (by omega) (by omega)).mpr (C1.mp h1)) ?_
          by_cases h2 : p * y ≤ x * q
          · rw [if_pos h2] at hr
            exact br_t ((pk_lLE (by omega) (by omega)).mpr (C2.mp h2)) (And.intro hr.symm (RR _ _ _ _ _ _))
          · rw [if_neg h2] at hr
            exact br_f (fun e => h2 (C2.mpr ((pk_lLE (by omega) (by omega)).mp e))) (And.intro hr.symm (RR _ _ _ _ _ _))
        · rw [if_neg h1] at hr
          exact br_f (fun e => h1 (C1.mpr ((pk_lLE (by omega) (by omega)).mp e))) (And.intro hr.symm (RR _ _ _ _ _ _))
      by_cases h0 : x * q = p * y
      · refine br_t (Int64.toInt_inj.mp (by rw [T, T0]; omega)) ?_
        exact yy 0 (by rw [if_pos (by omega), if_pos (by omega)])
      · refine br_f (fun e => h0 (by have e2 := congrArg Int64.toInt e; rw [T, T0] at e2; omega)) ?_
        by_cases h1 : x * q ≤ p * y
        · refine br_t (Int64.le_iff_toInt_le.mpr (by rw [T, T0]; omega)) ?_
          exact yy 2 (by rw [if_pos h1, if_neg (by omega)])
        · refine br_f (fun e => by have e2 := Int64.le_iff_toInt_le.mp e; rw [T, T0] at e2; omega) ?_
          exact yy 1 (by rw [if_neg h1])
end
section
/-! bestPlan -/
def cf_isb (N : Nat) (g : Int32) (mm nx sh : Nat → Nat) (p s : Nat) : Prop := cf_BV N g mm nx sh true (cf_fit N mm) s (cf_aN N g mm nx sh p s) (cf_dN N g mm nx sh p)
def cf_isB (N : Nat) (g : Int32) (mm nx sh : Nat → Nat) (p : Nat) : Prop := ∀ s, s < N → cf_isb N g mm nx sh p s
section
variable {N : Nat} {g : Int32} {mm nx sh : Nat → Nat} {p : Nat}
theorem cf_isb_iff (W : cf_Wd N g mm nx sh) {s x y tp bo : Nat} (h : cf_BV N g mm nx sh true (cf_fit N mm) s x y) (hf : cf_fit N mm p) (hr : tp * cf_dN N g mm nx sh p = cf_aN N g mm nx sh p s * bo) (h0 : 0 < bo) : tp * y = x * bo ↔ cf_isb N g mm nx sh p s := by
  have hd := cf_dN_b (P := p) W
  have ha := cf_aN_b (P := p) W s
  constructor
  · intro e
    have e1 : x * cf_dN N g mm nx sh p = cf_aN N g mm nx sh p s * y := by
      refine Nat.eq_of_mul_eq_mul_right h0 ?_
      have a1 : x * cf_dN N g mm nx sh p * bo = (x * bo) * cf_dN N g mm nx sh p := by ac_rfl
      have a2 : cf_aN N g mm nx sh p s * y * bo = (cf_aN N g mm nx sh p s * bo) * y := by ac_rfl
      rw [a1, a2, ← e, ← hr]; ac_rfl
    exact ⟨hd.1, ha, hd.2, ⟨p, hf, rfl⟩, fun q hq => cf_cmp_tr h.1 (h.2.2.2.2 q hq) (cf_cmp_eq true e1)⟩
  · intro hb
    have e1 := cf_BV_eq W h hb
    refine Nat.eq_of_mul_eq_mul_right hd.1 ?_
    have a1 : tp * y * cf_dN N g mm nx sh p = (tp * cf_dN N g mm nx sh p) * y := by ac_rfl
    have a2 : x * bo * cf_dN N g mm nx sh p = (x * cf_dN N g mm nx sh p) * bo := by ac_rfl
    rw [a1, a2, hr, e1]; ac_rfl
theorem cf_isB_ex (W : cf_Wd N g mm nx sh) : ∃ p, (cf_fit N mm p ∧ cf_isB N g mm nx sh p) ∧ ∀ j, j < p → ¬ (cf_fit N mm j ∧ cf_isB N g mm nx sh j) := by
  refine pk_least (fun p => cf_fit N mm p ∧ cf_isB N g mm nx sh p) ?_
  obtain ⟨P, hF, hP⟩ := cf_best_ex W
  refine ⟨P, hF, fun s hs => ⟨(cf_dN_b W).1, cf_aN_b W s, (cf_dN_b W).2, ⟨P, hF, rfl⟩, fun q hq => ?_⟩⟩
  have h1 := hP q s
  rw [← cf_aN_i W, ← cf_aN_i W, ← cf_dN_i W, ← cf_dN_i W] at h1
  unfold cf_cmp
  rw [if_pos rfl, Nat.mul_comm (cf_aN N g mm nx sh q s), Nat.mul_comm (cf_aN N g mm nx sh P s)]
  exact Int.ofNat_le.mp (by rw [Int.natCast_mul, Int.natCast_mul]; exact h1)
end
section
variable {N : Nat} {g : Int32} {mm nx sh : Nat → Nat} {p : Nat}
variable {f_c : Int32} {a_ac : Nat → Int32} {a_wc : Nat → Int32} {a_nx : Nat → Int32} {a_sh : Nat → Int32} {a_tb : Nat → Int64} {a_ro : Nat → Int32} {a_to : Nat → Int64} {a_bo : Nat → Int64} {a_bt : Nat → Int64} {a_bb : Nat → Int64} {a_wt : Nat → Int64} {a_wb : Nat → Int64}
theorem cf_X_isBest (W : cf_Wd N g mm nx sh) (hT : cf_Tp N g mm nx sh p N a_to a_bo) (hR : cf_XR N g mm nx sh (cf_fit N mm) a_bt a_bb a_wt a_wb) (hf : cf_fit N mm p) {post : Int32 → Prop}
    (K1 : cf_isB N g mm nx sh p → post 1) (K0 : ¬ cf_isB N g mm nx sh p → post 0) : wpX_isBest post ((nI N), g, f_c, a_ac, a_wc, a_nx, a_sh, a_tb, a_ro, a_to, a_bo, a_bt, a_bb, a_wt, a_wb) := by
  have hN := W.2.1
  have key : ∀ d s n, s + d = N → d < n → (∀ x, x < s → cf_isb N g mm nx sh p x) → wX_isBest_2 post (nI N) g f_c a_ac a_wc a_nx a_sh a_tb a_ro a_to a_bo a_bt a_bb a_wt a_wb n (nI s) := by
    intro d
    induction d with
    | zero =>
      intro s n hs hn h
      cases n with
      | zero => omega
      | succ n => exact br_t (nI_le (by omega) (by omega)) (K1 (fun x hx => h x (by omega)))
    | succ d ih =>
      intro s n hs hn h
      cases n with
      | zero => omega
      | succ n =>
        have hv : vp_in (nI s) 6 := cf_v (by omega)
        have hcl : (nI s).toNatClampNeg = s := cf_c (by omega)
        have hd := cf_dN_b (P := p) W
        have ha := cf_aN_b (P := p) W s
        obtain ⟨t1, t2⟩ := hT s (by omega)
        obtain ⟨r1, r2, r3, r4, r5⟩ := cf_red_rep (a := cf_aN N g mm nx sh p s) hd.1
        obtain ⟨x, y, x1, x2, x3, x4⟩ := (hR s (by omega)).1
        have hiff := cf_isb_iff W x4 hf r1 r2
        have b1 := cf_b58 (show cf_aN N g mm nx sh p s / Nat.gcd (cf_aN N g mm nx sh p s) (cf_dN N g mm nx sh p) ≤ 387420489 by omega) x4.2.2.1
        have b2 := cf_b58 x4.2.1 (show cf_dN N g mm nx sh p / Nat.gcd (cf_aN N g mm nx sh p s) (cf_dN N g mm nx sh p) ≤ 387420489 by omega)
        refine br_f (nI_ge (by omega) (by omega)) (And.intro hv (And.intro hv (And.intro hv (And.intro hv ?_))))
        rw [hcl, t1, t2, x1, x2, lN_mul, lN_mul]
        by_cases hb : cf_isb N g mm nx sh p s
        · refine br_t ((pk_lEQ b1 b2).mpr (hiff.mpr hb)) (nm_r (nI_1 s) (ih (s + 1) n (by omega) (by omega) (fun x hx => ?_)))
          by_cases e : x = s
          · subst e; exact hb
          · exact h x (by omega)
        · exact br_f (fun e => hb (hiff.mp ((pk_lEQ b1 b2).mp e))) (K0 (fun hall => hb (hall s (by omega))))
  exact ⟨N + 1, key N 0 _ (by omega) (by omega) (fun x hx => by omega)⟩
theorem cf_X_bp11 (W : cf_Wd N g mm nx sh) (V : cf_XW mm nx sh a_ac a_wc a_nx a_sh) (hR : cf_XR N g mm nx sh (cf_fit N mm) a_bt a_bb a_wt a_wb) {B : Nat} (hB : cf_fit N mm B ∧ cf_isB N g mm nx sh B) (hl : ∀ j, j < B → ¬ (cf_fit N mm j ∧ cf_isB N g mm nx sh j)) {post : Int32 → SX → Prop}
    (K : ∀ (a_tb' : Nat → Int64) (a_ro' : Nat → Int32) (a_to' a_bo' : Nat → Int64), post (nI B) ((nI N), g, f_c, a_ac, a_wc, a_nx, a_sh, a_tb', a_ro', a_to', a_bo', a_bt, a_bb, a_wt, a_wb)) :
    ∀ (d p n : Nat) (a_tb : Nat → Int64) (a_ro : Nat → Int32) (a_to a_bo : Nat → Int64), p + d = B → d < n → wX_bestPlan_11 post (cf_ch mm N) n (nI p) (nI N) g f_c a_ac a_wc a_nx a_sh a_tb a_ro a_to a_bo a_bt a_bb a_wt a_wb := by
  have hN := W.2.1
  have h64 : (2 : Nat) ^ N ≤ 2 ^ 6 := Nat.pow_le_pow_right (by decide) hN
  have h1N := cf_1N N (by omega)
  have hBN := hB.1.1
  intro d
  induction d with
  | zero =>
    intro p n a_tb a_ro a_to a_bo hp hn
    cases n with
    | zero => omega
    | succ n =>
      have e : p = B := by omega
      subst e
      refine br_f (by rw [h1N]; exact nI_ge (by omega) (by omega)) (br_t ((cf_mk0 _ _).mpr ((cf_fit_ch hN (by omega)).mp hB.1)) (cf_X_solve W V (by omega) (fun a_tb' a_ro' a_to' a_bo' hT => ?_)))
      exact cf_X_isBest W hT hR hB.1 (fun _ => br_f (by decide) (K _ _ _ _)) (fun h => absurd hB.2 h)
  | succ d ih =>
    intro p n a_tb a_ro a_to a_bo hp hn
    cases n with
    | zero => omega
    | succ n =>
      refine br_f (by rw [h1N]; exact nI_ge (by omega) (by omega)) ?_
      by_cases hf : cf_fit N mm p
      · refine br_t ((cf_mk0 _ _).mpr ((cf_fit_ch hN (by omega)).mp hf)) (cf_X_solve W V (by omega) (fun a_tb' a_ro' a_to' a_bo' hT => ?_))
        exact cf_X_isBest W hT hR hf (fun h => absurd ⟨hf, h⟩ (hl p (by omega))) (fun _ => br_t rfl (nm_r (nI_1 p) (ih (p + 1) n _ _ _ _ (by omega) (by omega))))
      · exact br_f (fun e2 => hf ((cf_fit_ch hN (by omega)).mpr ((cf_mk0 _ _).mp e2))) (nm_r (nI_1 p) (ih (p + 1) n _ _ _ _ (by omega) (by omega)))
end
section
variable {N : Nat} {g : Int32} {mm nx sh : Nat → Nat} {p : Nat}
variable {f_m : Int32} {f_a : Int64} {a_mm : Nat → Int32} {a_nx : Nat → Int32} {a_sh : Nat → Int32} {a_pk : Nat → Int32} {a_gd : Nat → Int64} {a_tp : Nat → Int64} {a_bt : Nat → Int64}
theorem cf_Y_allBest (W : cf_Wd N g mm nx sh) (hA : ∀ s, s < N → a_gd s = lN (cf_aN N g mm nx sh p s)) (hD : f_a = lN (cf_dN N g mm nx sh p)) (hR : cf_YR N g mm nx sh true (cf_fit N mm) a_tp a_bt) (hf : cf_fit N mm p) {post : Int32 → Prop}
    (K1 : cf_isB N g mm nx sh p → post 1) (K0 : ¬ cf_isB N g mm nx sh p → post 0) : wpY_allBest post ((nI N), g, f_m, f_a, a_mm, a_nx, a_sh, a_pk, a_gd, a_tp, a_bt) := by
  have hN := W.2.1
  have key : ∀ d s n, s + d = N → d < n → (∀ x, x < s → cf_isb N g mm nx sh p x) → wY_allBest_2 post (nI N) g f_m f_a a_mm a_nx a_sh a_pk a_gd a_tp a_bt n (nI s) := by
    intro d
    induction d with
    | zero =>
      intro s n hs hn h
      cases n with
      | zero => omega
      | succ n => exact br_t (nI_le (by omega) (by omega)) (K1 (fun x hx => h x (by omega)))
    | succ d ih =>
      intro s n hs hn h
      cases n with
      | zero => omega
      | succ n =>
        have hv : vp_in (nI s) 6 := cf_v (by omega)
        have hcl : (nI s).toNatClampNeg = s := cf_c (by omega)
        have hd := cf_dN_b (P := p) W
        have ha := cf_aN_b (P := p) W s
        obtain ⟨x, y, x1, x2, x4⟩ := hR s (by omega)
        have hiff := cf_isb_iff (p := p) (tp := cf_aN N g mm nx sh p s) (bo := cf_dN N g mm nx sh p) W x4 hf rfl hd.1
        have b1 := cf_b58 ha x4.2.2.1
        have b2 := cf_b58 x4.2.1 hd.2
        refine br_f (nI_ge (by omega) (by omega)) (br_f (nI_ge (a := s) (b := 6) (by omega) (by omega)) (And.intro hv (And.intro hv (And.intro hv ?_))))
        rw [hcl, hA s (by omega), hD, x1, x2, lN_mul, lN_mul]
        by_cases hb : cf_isb N g mm nx sh p s
        · have ih' := ih (s + 1) n (by omega) (by omega) (fun x hx => by
            by_cases e : x = s
            · subst e; exact hb
            · exact h x (by omega))
          rw [hD] at ih'
          exact br_t ((pk_lEQ b1 b2).mpr (hiff.mpr hb)) (nm_r (nI_1 s) ih')
        · exact br_f (fun e => hb (hiff.mp ((pk_lEQ b1 b2).mp e))) (K0 (fun hall => hb (hall s (by omega))))
  exact ⟨N + 1, key N 0 _ (by omega) (by omega) (fun x hx => by omega)⟩
theorem cf_Y_bp12 (W : cf_Wd N g mm nx sh) (V : cf_YW mm nx sh a_mm a_nx a_sh) (hR : cf_YR N g mm nx sh true (cf_fit N mm) a_tp a_bt) {B : Nat} (hB : cf_fit N mm B ∧ cf_isB N g mm nx sh B) (hl : ∀ j, j < B → ¬ (cf_fit N mm j ∧ cf_isB N g mm nx sh j)) {post : Int32 → SY → Prop}
    (K : ∀ (f_m' : Int32) (f_a' : Int64) (a_pk' : Nat → Int32) (a_gd' : Nat → Int64), post (nI B) ((nI N), g, f_m', f_a', a_mm, a_nx, a_sh, a_pk', a_gd', a_tp, a_bt)) :
    ∀ (d p n : Nat) (f_m : Int32) (f_a : Int64) (a_pk : Nat → Int32) (a_gd : Nat → Int64), p + d = B → d < n → wY_bestPlan_12 post (cf_ch mm N) n (nI p) (nI N) g f_m f_a a_mm a_nx a_sh a_pk a_gd a_tp a_bt := by
  have hN := W.2.1
  have h64 : (2 : Nat) ^ N ≤ 2 ^ 6 := Nat.pow_le_pow_right (by decide) hN
  have h1N := cf_1N N (by omega)
  have hBN := hB.1.1
  intro d
  induction d with
  | zero =>
    intro p n f_m f_a a_pk a_gd hp hn
    cases n with
    | zero => omega
    | succ n =>
      have e : p = B := by omega
      subst e
      refine br_f (by rw [h1N]; exact nI_ge (by omega) (by omega)) (br_t ((cf_mk1 _ _).mpr ((cf_fit_ch hN (by omega)).mp hB.1)) (br_f (by decide) (cf_Y_work W V (by omega) (fun f_m' a_pk' a_gd' hA => br_f (by decide) ?_))))
      exact cf_Y_allBest W hA rfl hR hB.1 (fun _ => br_f (by decide) (K _ _ _ _)) (fun h => absurd hB.2 h)
  | succ d ih =>
    intro p n f_m f_a a_pk a_gd hp hn
    cases n with
    | zero => omega
    | succ n =>
      refine br_f (by rw [h1N]; exact nI_ge (by omega) (by omega)) ?_
      by_cases hf : cf_fit N mm p
      · refine br_t ((cf_mk1 _ _).mpr ((cf_fit_ch hN (by omega)).mp hf)) (br_f (by decide) (cf_Y_work W V (by omega) (fun f_m' a_pk' a_gd' hA => br_f (by decide) ?_)))
        exact cf_Y_allBest W hA rfl hR hf (fun h => absurd ⟨hf, h⟩ (hl p (by omega))) (fun _ => br_t rfl (nm_r (nI_1 p) (ih (p + 1) n _ _ _ _ (by omega) (by omega))))
      · exact br_f (fun e2 => hf ((cf_fit_ch hN (by omega)).mpr ((cf_mk1 _ _).mp e2))) (br_t rfl (br_t rfl (nm_r (nI_1 p) (ih (p + 1) n _ _ _ _ (by omega) (by omega)))))
end
theorem i_vc_bestPlan {k : Nat} {u : SX} {v : SY} (I : i_Rel k u v) (hk : k + 4 ≤ 2049) : wpX_bestPlan (fun r u' => wpY_bestPlan (fun r' v' => r' = r ∧ i_Rel (k + 4) u' v') v) u := by
  refine cf_el (Q := fun u v => wpX_bestPlan (fun r u' => wpY_bestPlan (fun r' v' => r' = r ∧ i_Rel (k + 4) u' v') v) u) I ?_
  intro N g mm nx sh f_c a_ac a_wc a_nx a_sh a_tb a_ro a_to a_bo a_bt a_bb a_wt a_wb f_m f_a b_mm b_nx b_sh b_pk b_gd b_tp b_bt W V U hc
  obtain ⟨B, hB, hl⟩ := cf_isB_ex W
  unfold wpX_bestPlan wpY_bestPlan
  dsimp only
  refine cf_X_refresh W V hc (fun f_c' a_tb' a_ro' a_to' a_bo' a_bt' a_bb' a_wt' a_wb' hR => ?_)
  refine cf_X_choosers W V ⟨B + 1, ?_⟩
  refine cf_X_bp11 W V hR hB hl (fun a_tb' a_ro' a_to' a_bo' => ?_) B 0 _ _ _ _ _ (by omega) (by omega)
  refine cf_Y_gather W U true rfl (fun f_m' f_a' b_pk' b_gd' b_tp' b_bt' hY => ?_)
  refine cf_Y_twofold W U ⟨B + 1, ?_⟩
  exact cf_Y_bp12 W U hY hB hl (fun f_m' f_a' b_pk' b_gd' => And.intro rfl (cf_in W V U (Or.inr hR))) B 0 _ _ _ _ _ (by omega) (by omega)
end
