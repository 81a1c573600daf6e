section
/-! pure rows to paste: stores, nI and lN arithmetic, masks, shifts, narrowing, branches by naturals (pk_le, pk_lt, pk_eq), loops (lp1 .. lp16: the measure of the state; rp1 ..: recursion), negatives. Take what you need -/
theorem pk_us {f : Nat → Int32} {k : Nat} {x : Int32} : upd f k x k = x := if_pos rfl
theorem pk_un {f : Nat → Int32} {k j : Nat} {x : Int32} (h : j ≠ k) : upd f k x j = f j := if_neg h
theorem pk_uLs {f : Nat → Int64} {k : Nat} {x : Int64} : vp_updL f k x k = x := if_pos rfl
theorem pk_uLn {f : Nat → Int64} {k j : Nat} {x : Int64} (h : j ≠ k) : vp_updL f k x j = f j := if_neg h
theorem pk_sub {a b : Nat} (h : b ≤ a) : nI a - nI b = nI (a - b) := by
  obtain ⟨c, rfl⟩ : ∃ c, a = c + b := ⟨a - b, by omega⟩
  rw [← nI_add, Int32.add_sub_cancel, Nat.add_sub_cancel]
theorem pk_m1 (n : Nat) : nI (n + 1) + (-1) = nI n := by
  rw [← nI_1, Int32.add_assoc, show (1 : Int32) + (-1) = 0 from rfl, Int32.add_zero]
theorem pk_mul (a b : Nat) : nI a * nI b = nI (a * b) := (Int32.ofNat_mul a b).symm
theorem pk_div {a d : Nat} (ha : a < 2 ^ 31) (h0 : 0 < d) (hd : d < 2 ^ 31) : nI a / nI d = nI (a / d) := by
  apply Int32.toInt_inj.mp
  rw [lg_idiv_nonneg (by rw [nI_toInt ha]; omega) (by rw [nI_toInt hd]; omega), nI_toInt ha, nI_toInt hd, nI_toInt (Nat.lt_of_le_of_lt (Nat.div_le_self a d) ha)]
  first | rfl | exact (Int.natCast_ediv _ _).symm
theorem pk_rem {a d : Nat} (ha : a < 2 ^ 31) (h0 : 0 < d) (hd : d < 2 ^ 31) : nI a - nI a / nI d * nI d = nI (a % d) := by
  rw [pk_div ha h0 hd, pk_mul, pk_sub (Nat.div_mul_le_self a d)]
  exact congrArg nI (by have := Nat.div_add_mod' a d; omega)
theorem pk_sub_toInt {a b : Nat} (ha : a < 2 ^ 30) (hb : b < 2 ^ 30) : (nI a - nI b).toInt = (a : Int) - b := by
  rw [Int32.toInt_sub, nI_toInt (by omega), nI_toInt (by omega)]
  exact Int.bmod_eq_of_le (by omega) (by omega)
theorem pk_sneg {a b : Nat} (hb : b < 2 ^ 30) (h : a < b) : nI a - nI b < 0 := by
  rw [Int32.lt_iff_toInt_lt, pk_sub_toInt (by omega) hb, show (0 : Int32).toInt = 0 from by decide]
  omega
theorem pk_ix (x : Int32) {n : Nat} (hn : n < 2 ^ 31) : x < 0 ∨ nI n ≤ x ∨ ∃ j : Nat, j < n ∧ x = nI j := by
  by_cases h : x < 0
  · exact Or.inl h
  · obtain ⟨j, hj, rfl⟩ := nI_of h
    by_cases h2 : j < n
    · exact Or.inr (Or.inr ⟨j, h2, rfl⟩)
    · exact Or.inr (Or.inl (nI_le (by omega) hj))
theorem pk_le {x y : Int32} {A B : Prop} (a b : Nat) (f : a ≤ b → A) (g : b < a → B) (hx : x = nI a := by rfl) (hy : y = nI b := by rfl) (ha : a < 2 ^ 31 := by omega) (hb : b < 2 ^ 31 := by omega) : (x ≤ y → A) ∧ (¬ x ≤ y → B) := by
  subst hx hy
  rw [nI_leI ha hb]
  exact ⟨f, fun z => g (by omega)⟩
theorem pk_lt {x y : Int32} {A B : Prop} (a b : Nat) (f : a < b → A) (g : b ≤ a → B) (hx : x = nI a := by rfl) (hy : y = nI b := by rfl) (ha : a < 2 ^ 31 := by omega) (hb : b < 2 ^ 31 := by omega) : (x < y → A) ∧ (¬ x < y → B) := by
  subst hx hy
  rw [nI_ltI ha hb]
  exact ⟨f, fun z => g (by omega)⟩
theorem pk_eq {x y : Int32} {A B : Prop} (a b : Nat) (f : a = b → A) (g : a ≠ b → B) (hx : x = nI a := by rfl) (hy : y = nI b := by rfl) (ha : a < 2 ^ 31 := by omega) (hb : b < 2 ^ 31 := by omega) : (x = y → A) ∧ (¬ x = y → B) := by
  subst hx hy
  rw [nI_eq ha hb]
  exact ⟨f, g⟩
theorem pk_in {x : Int32} (n N : Nat) (h : n < N) (hx : x = nI n := by rfl) (hN : N < 2 ^ 31 := by omega) : vp_in x N := by
  subst hx
  exact vp_in_nI h hN
theorem pk_cl {x : Int32} (n : Nat) (hx : x = nI n := by rfl) (h : n < 2 ^ 31 := by omega) : x.toNatClampNeg = n := by
  subst hx
  exact nI_clamp h
theorem pk_tn {n : Nat} (h : n < 2 ^ 32) : (nI n).toBitVec.toNat = n := Nat.mod_eq_of_lt h
theorem pk_and (x : Int32) {m : Int32} (k : Nat) (hm : m.toBitVec.toNat = 2 ^ k - 1) : x &&& m = nI (x.toBitVec.toNat % 2 ^ k) := by
  apply Int32.toBitVec_inj.mp
  apply BitVec.eq_of_toNat_eq
  rw [Int32.toBitVec_and, BitVec.toNat_and, hm, Nat.and_two_pow_sub_one_eq_mod]
  show _ = (BitVec.ofNat 32 _).toNat
  rw [BitVec.toNat_ofNat]
  exact (Nat.mod_eq_of_lt (Nat.lt_of_le_of_lt (Nat.mod_le _ _) x.toBitVec.isLt)).symm
theorem pk_andN {n : Nat} (h : n < 2 ^ 32) {m : Int32} (k : Nat) (hm : m.toBitVec.toNat = 2 ^ k - 1) : nI n &&& m = nI (n % 2 ^ k) := by
  rw [pk_and _ k hm, pk_tn h]
theorem pk_andE (x : Int32) {m : Int32} (k : Nat) (hm : m.toBitVec.toNat = 2 ^ k - 1) : ∃ j : Nat, j < 2 ^ k ∧ x &&& m = nI j := ⟨_, Nat.mod_lt _ (Nat.two_pow_pos k), pk_and x k hm⟩
theorem pk_andIn (x : Int32) {m : Int32} (k : Nat) (hm : m.toBitVec.toNat = 2 ^ k - 1) (hk : k ≤ 30) : vp_in (x &&& m) (2 ^ k) := by
  obtain ⟨j, hj, e⟩ := pk_andE x k hm
  rw [e]
  exact vp_in_nI hj (Nat.lt_of_le_of_lt (Nat.pow_le_pow_right (by decide) hk) (by decide))
theorem pk_shl (a s : Int32) (k : Nat) (hs : (s.toBitVec.smod 32).toNat = k) : (a <<< s).toBitVec.toNat = a.toBitVec.toNat * 2 ^ k % 2 ^ 32 := by
  show (a.toBitVec <<< (s.toBitVec.smod 32).toNat).toNat = _
  rw [hs, BitVec.toNat_shiftLeft, Nat.shiftLeft_eq]
theorem pk_shlN {n : Nat} (s : Int32) (k : Nat) (hs : (s.toBitVec.smod 32).toNat = k) (h : n * 2 ^ k < 2 ^ 32) : nI n <<< s = nI (n * 2 ^ k) := by
  apply Int32.toBitVec_inj.mp
  apply BitVec.eq_of_toNat_eq
  have hn : n < 2 ^ 32 := Nat.lt_of_le_of_lt (Nat.le_mul_of_pos_right n (Nat.two_pow_pos k)) h
  rw [pk_shl _ _ k hs, pk_tn hn, pk_tn h, Nat.mod_eq_of_lt h]
theorem pk_shr (a s : Int32) (k : Nat) (hs : (s.toBitVec.smod 32).toNat = k) : (a >>> s).toInt = a.toInt >>> k := by
  show (a.toBitVec.sshiftRight (s.toBitVec.smod 32).toNat).toInt = _
  rw [hs, BitVec.toInt_sshiftRight]
  rfl
theorem pk_shrN {n : Nat} (h : n < 2 ^ 31) (s : Int32) (k : Nat) (hs : (s.toBitVec.smod 32).toNat = k) : nI n >>> s = nI (n / 2 ^ k) := by
  apply Int32.toInt_inj.mp
  have h2 : n / 2 ^ k ≤ n := Nat.div_le_self _ _
  rw [pk_shr _ _ k hs, nI_toInt h, nI_toInt (by omega), Int.shiftRight_eq_div_pow]
  rfl
theorem pk_ushr (x s : Int32) (k : Nat) (hs : ((s.toUInt32 &&& Int32.toUInt32 31).toBitVec % 32).toNat = k) : (x.toUInt32 >>> (s.toUInt32 &&& Int32.toUInt32 31)).toInt32.toBitVec.toNat = x.toBitVec.toNat / 2 ^ k := by
  have e : (x.toUInt32 >>> (s.toUInt32 &&& Int32.toUInt32 31)).toInt32.toBitVec = x.toBitVec >>> k := by
    rw [← hs]
    exact UInt32.toBitVec_shiftRight _ _
  rw [e, BitVec.toNat_ushiftRight, Nat.shiftRight_eq_div_pow]
theorem pk_ushrN {n : Nat} (hn : n < 2 ^ 32) (s : Int32) (k : Nat) (hs : ((s.toUInt32 &&& Int32.toUInt32 31).toBitVec % 32).toNat = k) : ((nI n).toUInt32 >>> (s.toUInt32 &&& Int32.toUInt32 31)).toInt32 = nI (n / 2 ^ k) := by
  apply Int32.toBitVec_inj.mp
  apply BitVec.eq_of_toNat_eq
  rw [pk_ushr _ s k hs, pk_tn hn, pk_tn (Nat.lt_of_le_of_lt (Nat.div_le_self _ _) hn)]
theorem pk_nb (z : Int32) : narrow .byte (.int z.toInt8.toInt32) = .int z.toInt8.toInt32 := congrArg Value.int (by simp)
theorem pk_ns (z : Int32) : narrow .short (.int z.toInt16.toInt32) = .int z.toInt16.toInt32 := congrArg Value.int (by simp)
theorem pk_fb (r : Int32) : fits .byte (.int r.toInt8.toInt32) = true := by
  have ⟨a, b⟩ := lg_i2b_range r
  have h1 : (-128 : Int32).toInt = -128 := by decide
  have h2 : (127 : Int32).toInt = 127 := by decide
  simp only [fits, Bool.and_eq_true, decide_eq_true_eq, Int32.le_iff_toInt_le, h1, h2]
  omega
theorem pk_fs (r : Int32) : fits .short (.int r.toInt16.toInt32) = true := by
  have ⟨a, b⟩ := lg_i2s_range r
  have h1 : (-32768 : Int32).toInt = -32768 := by decide
  have h2 : (32767 : Int32).toInt = 32767 := by decide
  simp only [fits, Bool.and_eq_true, decide_eq_true_eq, Int32.le_iff_toInt_le, h1, h2]
  omega
theorem pk_charN {q : Nat} (hq : q < 65536) : narrow .char (.int (nI q)) = .int (nI q) ∧ fits .char (.int (nI q)) = true := by
  constructor
  · have e : (nI q).toUInt32.toUInt16.toUInt32.toInt32 = nI q := by
      apply Int32.toBitVec_inj.mp
      apply BitVec.eq_of_toNat_eq
      show (nI q).toUInt32.toUInt16.toUInt32.toNat = q % 2 ^ 32
      rw [UInt16.toNat_toUInt32, UInt32.toNat_toUInt16, show (nI q).toUInt32.toNat = q % 2 ^ 32 from rfl]
      omega
    exact congrArg Value.int e
  · have a : (0 : Int32) ≤ nI q := nI_pos' (by omega)
    have b : nI q ≤ 65535 := nI_le (b := 65535) (by omega) (by decide)
    show (decide ((0 : Int32) ≤ nI q) && decide (nI q ≤ 65535)) = true
    rw [decide_eq_true a, decide_eq_true b]
    rfl
theorem pk_char (x : Int32) : (x.toUInt32 % 65536).toInt32 = nI (x.toBitVec.toNat % 65536) := by
  apply Int32.toBitVec_inj.mp
  apply BitVec.eq_of_toNat_eq
  rw [pk_tn (by omega)]
  show (x.toUInt32 % 65536).toNat = _
  rw [UInt32.toNat_mod]
  rfl
theorem pk_nc (x : Int32) : narrow .char (.int (x.toUInt32 % 65536).toInt32) = .int (x.toUInt32 % 65536).toInt32 := by
  rw [pk_char]
  exact (pk_charN (Nat.mod_lt _ (by decide))).1
theorem pk_fc (x : Int32) : fits .char (.int (x.toUInt32 % 65536).toInt32) = true := by
  rw [pk_char]
  exact (pk_charN (Nat.mod_lt _ (by decide))).2
theorem pk_vb (z : Int32) : vp_nar .byte z.toInt8.toInt32 = z.toInt8.toInt32 := by rw [vp_nar_byte]; simp
theorem pk_vs (z : Int32) : vp_nar .short z.toInt16.toInt32 = z.toInt16.toInt32 := by rw [vp_nar_short]; simp
theorem pk_vc (z : Int32) : vp_nar .char (z.toUInt32 % 65536).toInt32 = (z.toUInt32 % 65536).toInt32 := Value.int.inj (pk_nc z)
theorem pk_lT {n : Nat} (h : n < 2 ^ 63) : (lN n).toInt = (n : Int) := lg_ofNat_toInt h
theorem pk_lLT {a b : Nat} (ha : a < 2 ^ 63) (hb : b < 2 ^ 63) : lN a < lN b ↔ a < b := by
  rw [Int64.lt_iff_toInt_lt, pk_lT ha, pk_lT hb]; omega
theorem pk_lLE {a b : Nat} (ha : a < 2 ^ 63) (hb : b < 2 ^ 63) : lN a ≤ lN b ↔ a ≤ b := by
  rw [Int64.le_iff_toInt_le, pk_lT ha, pk_lT hb]; omega
theorem pk_lEQ {a b : Nat} (ha : a < 2 ^ 63) (hb : b < 2 ^ 63) : lN a = lN b ↔ a = b := by
  rw [← Int64.toInt_inj, pk_lT ha, pk_lT hb]; omega
theorem pk_lOf {x : Int64} (h : ¬ x < 0) : ∃ k : Nat, k < 2 ^ 63 ∧ x = lN k := by
  rw [Int64.lt_iff_toInt_lt] at h
  have h0 : (0 : Int64).toInt = 0 := by decide
  have hx := Int64.toInt_lt x
  refine ⟨x.toInt.toNat, by omega, Int64.toInt_inj.mp ?_⟩
  rw [pk_lT (by omega)]
  omega
theorem pk_lDiv {a b : Nat} (ha : a < 2 ^ 63) (h0 : 0 < b) (hb : b < 2 ^ 63) : lN a / lN b = lN (a / b) := by
  apply Int64.toInt_inj.mp
  rw [lg_ldiv_nonneg (by rw [pk_lT ha]; omega) (by rw [pk_lT hb]; omega), pk_lT ha, pk_lT hb, pk_lT (Nat.lt_of_le_of_lt (Nat.div_le_self a b) ha)]
  rfl
theorem pk_lRem {a b : Nat} (ha : a < 2 ^ 63) (h0 : 0 < b) (hb : b < 2 ^ 63) : lN a - lN a / lN b * lN b = lN (a % b) := by
  rw [pk_lDiv ha h0 hb, lN_mul, lN_sub (Nat.div_mul_le_self a b)]
  exact congrArg lN (by have := Nat.div_add_mod' a b; omega)
theorem pk_loop {σ : Type} (W : Nat → Nat → σ → Prop) (I : Nat → σ → Prop) (e i0 : Nat) (s : σ) (hi : i0 ≤ e) (h0 : I i0 s) (hx : ∀ n s, I e s → W (n + 1) e s)
    (hs : ∀ n i s, i < e → I i s → (∀ s', I (i + 1) s' → W n (i + 1) s') → W (n + 1) i s) : ∃ n, W n i0 s :=
  ⟨e + 1, loop_i W I e hx hs (e + 1) i0 s hi (by omega) h0⟩
theorem pk_loopD {σ : Type} (W : Nat → Nat → σ → Prop) (I : Nat → σ → Prop) (hx : ∀ n s, I 0 s → W (n + 1) 0 s)
    (hs : ∀ n i s, I (i + 1) s → (∀ s', I i s' → W n i s') → W (n + 1) (i + 1) s) : ∀ (e : Nat) (s : σ), I e s → W (e + 1) e s := by
  intro e
  induction e with
  | zero => exact fun s h => hx 0 s h
  | succ e ih => exact fun s h => hs (e + 1) e s h (fun s' h' => ih s' h')
theorem lp1 {A1 : Type} (W : Nat → A1 → Prop) (I : A1 → Prop) (μ : A1 → Nat) (hs : ∀ (n : Nat) (a1 : A1), I a1 → (∀ (b1 : A1), I b1 → μ b1 < μ a1 → W n b1) → W (n + 1) a1) (a1 : A1) (h : I a1) : ∃ n, W n a1 :=
  loop_m (σ := A1) (fun n s => W n s) (fun s => I s) (fun s => μ s) (fun n s hI hk => hs n s hI (fun b1 h9 hm => hk b1 h9 hm)) a1 h
theorem lp2 {A1 A2 : Type} (W : Nat → A1 → A2 → Prop) (I : A1 → A2 → Prop) (μ : A1 → A2 → Nat) (hs : ∀ (n : Nat) (a1 : A1) (a2 : A2), I a1 a2 → (∀ (b1 : A1) (b2 : A2), I b1 b2 → μ b1 b2 < μ a1 a2 → W n b1 b2) → W (n + 1) a1 a2) (a1 : A1) (a2 : A2) (h : I a1 a2) : ∃ n, W n a1 a2 :=
  loop_m (σ := A1 × A2) (fun n s => W n s.1 s.2) (fun s => I s.1 s.2) (fun s => μ s.1 s.2) (fun n s hI hk => hs n s.1 s.2 hI (fun b1 b2 h9 hm => hk (b1, b2) h9 hm)) (a1, a2) h
theorem lp3 {A1 A2 A3 : Type} (W : Nat → A1 → A2 → A3 → Prop) (I : A1 → A2 → A3 → Prop) (μ : A1 → A2 → A3 → Nat) (hs : ∀ (n : Nat) (a1 : A1) (a2 : A2) (a3 : A3), I a1 a2 a3 → (∀ (b1 : A1) (b2 : A2) (b3 : A3), I b1 b2 b3 → μ b1 b2 b3 < μ a1 a2 a3 → W n b1 b2 b3) → W (n + 1) a1 a2 a3) (a1 : A1) (a2 : A2) (a3 : A3) (h : I a1 a2 a3) : ∃ n, W n a1 a2 a3 :=
  loop_m (σ := A1 × A2 × A3) (fun n s => W n s.1 s.2.1 s.2.2) (fun s => I s.1 s.2.1 s.2.2) (fun s => μ s.1 s.2.1 s.2.2) (fun n s hI hk => hs n s.1 s.2.1 s.2.2 hI (fun b1 b2 b3 h9 hm => hk (b1, b2, b3) h9 hm)) (a1, a2, a3) h
theorem lp4 {A1 A2 A3 A4 : Type} (W : Nat → A1 → A2 → A3 → A4 → Prop) (I : A1 → A2 → A3 → A4 → Prop) (μ : A1 → A2 → A3 → A4 → Nat) (hs : ∀ (n : Nat) (a1 : A1) (a2 : A2) (a3 : A3) (a4 : A4), I a1 a2 a3 a4 → (∀ (b1 : A1) (b2 : A2) (b3 : A3) (b4 : A4), I b1 b2 b3 b4 → μ b1 b2 b3 b4 < μ a1 a2 a3 a4 → W n b1 b2 b3 b4) → W (n + 1) a1 a2 a3 a4) (a1 : A1) (a2 : A2) (a3 : A3) (a4 : A4) (h : I a1 a2 a3 a4) : ∃ n, W n a1 a2 a3 a4 :=
  loop_m (σ := A1 × A2 × A3 × A4) (fun n s => W n s.1 s.2.1 s.2.2.1 s.2.2.2) (fun s => I s.1 s.2.1 s.2.2.1 s.2.2.2) (fun s => μ s.1 s.2.1 s.2.2.1 s.2.2.2) (fun n s hI hk => hs n s.1 s.2.1 s.2.2.1 s.2.2.2 hI (fun b1 b2 b3 b4 h9 hm => hk (b1, b2, b3, b4) h9 hm)) (a1, a2, a3, a4) h
theorem lp5 {A1 A2 A3 A4 A5 : Type} (W : Nat → A1 → A2 → A3 → A4 → A5 → Prop) (I : A1 → A2 → A3 → A4 → A5 → Prop) (μ : A1 → A2 → A3 → A4 → A5 → Nat) (hs : ∀ (n : Nat) (a1 : A1) (a2 : A2) (a3 : A3) (a4 : A4) (a5 : A5), I a1 a2 a3 a4 a5 → (∀ (b1 : A1) (b2 : A2) (b3 : A3) (b4 : A4) (b5 : A5), I b1 b2 b3 b4 b5 → μ b1 b2 b3 b4 b5 < μ a1 a2 a3 a4 a5 → W n b1 b2 b3 b4 b5) → W (n + 1) a1 a2 a3 a4 a5) (a1 : A1) (a2 : A2) (a3 : A3) (a4 : A4) (a5 : A5) (h : I a1 a2 a3 a4 a5) : ∃ n, W n a1 a2 a3 a4 a5 :=
  loop_m (σ := A1 × A2 × A3 × A4 × A5) (fun n s => W n s.1 s.2.1 s.2.2.1 s.2.2.2.1 s.2.2.2.2) (fun s => I s.1 s.2.1 s.2.2.1 s.2.2.2.1 s.2.2.2.2) (fun s => μ s.1 s.2.1 s.2.2.1 s.2.2.2.1 s.2.2.2.2) (fun n s hI hk => hs n s.1 s.2.1 s.2.2.1 s.2.2.2.1 s.2.2.2.2 hI (fun b1 b2 b3 b4 b5 h9 hm => hk (b1, b2, b3, b4, b5) h9 hm)) (a1, a2, a3, a4, a5) h
theorem lp6 {A1 A2 A3 A4 A5 A6 : Type} (W : Nat → A1 → A2 → A3 → A4 → A5 → A6 → Prop) (I : A1 → A2 → A3 → A4 → A5 → A6 → Prop) (μ : A1 → A2 → A3 → A4 → A5 → A6 → Nat) (hs : ∀ (n : Nat) (a1 : A1) (a2 : A2) (a3 : A3) (a4 : A4) (a5 : A5) (a6 : A6), I a1 a2 a3 a4 a5 a6 → (∀ (b1 : A1) (b2 : A2) (b3 : A3) (b4 : A4) (b5 : A5) (b6 : A6), I b1 b2 b3 b4 b5 b6 → μ b1 b2 b3 b4 b5 b6 < μ a1 a2 a3 a4 a5 a6 → W n b1 b2 b3 b4 b5 b6) → W (n + 1) a1 a2 a3 a4 a5 a6) (a1 : A1) (a2 : A2) (a3 : A3) (a4 : A4) (a5 : A5) (a6 : A6) (h : I a1 a2 a3 a4 a5 a6) : ∃ n, W n a1 a2 a3 a4 a5 a6 :=
  loop_m (σ := A1 × A2 × A3 × A4 × A5 × A6) (fun n s => W n s.1 s.2.1 s.2.2.1 s.2.2.2.1 s.2.2.2.2.1 s.2.2.2.2.2) (fun s => I s.1 s.2.1 s.2.2.1 s.2.2.2.1 s.2.2.2.2.1 s.2.2.2.2.2) (fun s => μ s.1 s.2.1 s.2.2.1 s.2.2.2.1 s.2.2.2.2.1 s.2.2.2.2.2) (fun n s hI hk => hs n s.1 s.2.1 s.2.2.1 s.2.2.2.1 s.2.2.2.2.1 s.2.2.2.2.2 hI (fun b1 b2 b3 b4 b5 b6 h9 hm => hk (b1, b2, b3, b4, b5, b6) h9 hm)) (a1, a2, a3, a4, a5, a6) h
theorem lp7 {A1 A2 A3 A4 A5 A6 A7 : Type} (W : Nat → A1 → A2 → A3 → A4 → A5 → A6 → A7 → Prop) (I : A1 → A2 → A3 → A4 → A5 → A6 → A7 → Prop) (μ : A1 → A2 → A3 → A4 → A5 → A6 → A7 → Nat) (hs : ∀ (n : Nat) (a1 : A1) (a2 : A2) (a3 : A3) (a4 : A4) (a5 : A5) (a6 : A6) (a7 : A7), I a1 a2 a3 a4 a5 a6 a7 → (∀ (b1 : A1) (b2 : A2) (b3 : A3) (b4 : A4) (b5 : A5) (b6 : A6) (b7 : A7), I b1 b2 b3 b4 b5 b6 b7 → μ b1 b2 b3 b4 b5 b6 b7 < μ a1 a2 a3 a4 a5 a6 a7 → W n b1 b2 b3 b4 b5 b6 b7) → W (n + 1) a1 a2 a3 a4 a5 a6 a7) (a1 : A1) (a2 : A2) (a3 : A3) (a4 : A4) (a5 : A5) (a6 : A6) (a7 : A7) (h : I a1 a2 a3 a4 a5 a6 a7) : ∃ n, W n a1 a2 a3 a4 a5 a6 a7 :=
  loop_m (σ := A1 × A2 × A3 × A4 × A5 × A6 × A7) (fun n s => W n s.1 s.2.1 s.2.2.1 s.2.2.2.1 s.2.2.2.2.1 s.2.2.2.2.2.1 s.2.2.2.2.2.2) (fun s => I s.1 s.2.1 s.2.2.1 s.2.2.2.1 s.2.2.2.2.1 s.2.2.2.2.2.1 s.2.2.2.2.2.2) (fun s => μ s.1 s.2.1 s.2.2.1 s.2.2.2.1 s.2.2.2.2.1 s.2.2.2.2.2.1 s.2.2.2.2.2.2) (fun n s hI hk => hs n s.1 s.2.1 s.2.2.1 s.2.2.2.1 s.2.2.2.2.1 s.2.2.2.2.2.1 s.2.2.2.2.2.2 hI (fun b1 b2 b3 b4 b5 b6 b7 h9 hm => hk (b1, b2, b3, b4, b5, b6, b7) h9 hm)) (a1, a2, a3, a4, a5, a6, a7) h
theorem lp8 {A1 A2 A3 A4 A5 A6 A7 A8 : Type} (W : Nat → A1 → A2 → A3 → A4 → A5 → A6 → A7 → A8 → Prop) (I : A1 → A2 → A3 → A4 → A5 → A6 → A7 → A8 → Prop) (μ : A1 → A2 → A3 → A4 → A5 → A6 → A7 → A8 → Nat) (hs : ∀ (n : Nat) (a1 : A1) (a2 : A2) (a3 : A3) (a4 : A4) (a5 : A5) (a6 : A6) (a7 : A7) (a8 : A8), I a1 a2 a3 a4 a5 a6 a7 a8 → (∀ (b1 : A1) (b2 : A2) (b3 : A3) (b4 : A4) (b5 : A5) (b6 : A6) (b7 : A7) (b8 : A8), I b1 b2 b3 b4 b5 b6 b7 b8 → μ b1 b2 b3 b4 b5 b6 b7 b8 < μ a1 a2 a3 a4 a5 a6 a7 a8 → W n b1 b2 b3 b4 b5 b6 b7 b8) → W (n + 1) a1 a2 a3 a4 a5 a6 a7 a8) (a1 : A1) (a2 : A2) (a3 : A3) (a4 : A4) (a5 : A5) (a6 : A6) (a7 : A7) (a8 : A8) (h : I a1 a2 a3 a4 a5 a6 a7 a8) : ∃ n, W n a1 a2 a3 a4 a5 a6 a7 a8 :=
  loop_m (σ := A1 × A2 × A3 × A4 × A5 × A6 × A7 × A8) (fun n s => W n s.1 s.2.1 s.2.2.1 s.2.2.2.1 s.2.2.2.2.1 s.2.2.2.2.2.1 s.2.2.2.2.2.2.1 s.2.2.2.2.2.2.2) (fun s => I s.1 s.2.1 s.2.2.1 s.2.2.2.1 s.2.2.2.2.1 s.2.2.2.2.2.1 s.2.2.2.2.2.2.1 s.2.2.2.2.2.2.2) (fun s => μ s.1 s.2.1 s.2.2.1 s.2.2.2.1 s.2.2.2.2.1 s.2.2.2.2.2.1 s.2.2.2.2.2.2.1 s.2.2.2.2.2.2.2) (fun n s hI hk => hs n s.1 s.2.1 s.2.2.1 s.2.2.2.1 s.2.2.2.2.1 s.2.2.2.2.2.1 s.2.2.2.2.2.2.1 s.2.2.2.2.2.2.2 hI (fun b1 b2 b3 b4 b5 b6 b7 b8 h9 hm => hk (b1, b2, b3, b4, b5, b6, b7, b8) h9 hm)) (a1, a2, a3, a4, a5, a6, a7, a8) h
theorem lp9 {A1 A2 A3 A4 A5 A6 A7 A8 A9 : Type} (W : Nat → A1 → A2 → A3 → A4 → A5 → A6 → A7 → A8 → A9 → Prop) (I : A1 → A2 → A3 → A4 → A5 → A6 → A7 → A8 → A9 → Prop) (μ : A1 → A2 → A3 → A4 → A5 → A6 → A7 → A8 → A9 → Nat) (hs : ∀ (n : Nat) (a1 : A1) (a2 : A2) (a3 : A3) (a4 : A4) (a5 : A5) (a6 : A6) (a7 : A7) (a8 : A8) (a9 : A9), I a1 a2 a3 a4 a5 a6 a7 a8 a9 → (∀ (b1 : A1) (b2 : A2) (b3 : A3) (b4 : A4) (b5 : A5) (b6 : A6) (b7 : A7) (b8 : A8) (b9 : A9), I b1 b2 b3 b4 b5 b6 b7 b8 b9 → μ b1 b2 b3 b4 b5 b6 b7 b8 b9 < μ a1 a2 a3 a4 a5 a6 a7 a8 a9 → W n b1 b2 b3 b4 b5 b6 b7 b8 b9) → W (n + 1) a1 a2 a3 a4 a5 a6 a7 a8 a9) (a1 : A1) (a2 : A2) (a3 : A3) (a4 : A4) (a5 : A5) (a6 : A6) (a7 : A7) (a8 : A8) (a9 : A9) (h : I a1 a2 a3 a4 a5 a6 a7 a8 a9) : ∃ n, W n a1 a2 a3 a4 a5 a6 a7 a8 a9 :=
  loop_m (σ := A1 × A2 × A3 × A4 × A5 × A6 × A7 × A8 × A9) (fun n s => W n s.1 s.2.1 s.2.2.1 s.2.2.2.1 s.2.2.2.2.1 s.2.2.2.2.2.1 s.2.2.2.2.2.2.1 s.2.2.2.2.2.2.2.1 s.2.2.2.2.2.2.2.2) (fun s => I s.1 s.2.1 s.2.2.1 s.2.2.2.1 s.2.2.2.2.1 s.2.2.2.2.2.1 s.2.2.2.2.2.2.1 s.2.2.2.2.2.2.2.1 s.2.2.2.2.2.2.2.2) (fun s => μ s.1 s.2.1 s.2.2.1 s.2.2.2.1 s.2.2.2.2.1 s.2.2.2.2.2.1 s.2.2.2.2.2.2.1 s.2.2.2.2.2.2.2.1 s.2.2.2.2.2.2.2.2) (fun n s hI hk => hs n s.1 s.2.1 s.2.2.1 s.2.2.2.1 s.2.2.2.2.1 s.2.2.2.2.2.1 s.2.2.2.2.2.2.1 s.2.2.2.2.2.2.2.1 s.2.2.2.2.2.2.2.2 hI (fun b1 b2 b3 b4 b5 b6 b7 b8 b9 h9 hm => hk (b1, b2, b3, b4, b5, b6, b7, b8, b9) h9 hm)) (a1, a2, a3, a4, a5, a6, a7, a8, a9) h
theorem lp10 {A1 A2 A3 A4 A5 A6 A7 A8 A9 A10 : Type} (W : Nat → A1 → A2 → A3 → A4 → A5 → A6 → A7 → A8 → A9 → A10 → Prop) (I : A1 → A2 → A3 → A4 → A5 → A6 → A7 → A8 → A9 → A10 → Prop) (μ : A1 → A2 → A3 → A4 → A5 → A6 → A7 → A8 → A9 → A10 → Nat) (hs : ∀ (n : Nat) (a1 : A1) (a2 : A2) (a3 : A3) (a4 : A4) (a5 : A5) (a6 : A6) (a7 : A7) (a8 : A8) (a9 : A9) (a10 : A10), I a1 a2 a3 a4 a5 a6 a7 a8 a9 a10 → (∀ (b1 : A1) (b2 : A2) (b3 : A3) (b4 : A4) (b5 : A5) (b6 : A6) (b7 : A7) (b8 : A8) (b9 : A9) (b10 : A10), I b1 b2 b3 b4 b5 b6 b7 b8 b9 b10 → μ b1 b2 b3 b4 b5 b6 b7 b8 b9 b10 < μ a1 a2 a3 a4 a5 a6 a7 a8 a9 a10 → W n b1 b2 b3 b4 b5 b6 b7 b8 b9 b10) → W (n + 1) a1 a2 a3 a4 a5 a6 a7 a8 a9 a10) (a1 : A1) (a2 : A2) (a3 : A3) (a4 : A4) (a5 : A5) (a6 : A6) (a7 : A7) (a8 : A8) (a9 : A9) (a10 : A10) (h : I a1 a2 a3 a4 a5 a6 a7 a8 a9 a10) : ∃ n, W n a1 a2 a3 a4 a5 a6 a7 a8 a9 a10 :=
  loop_m (σ := A1 × A2 × A3 × A4 × A5 × A6 × A7 × A8 × A9 × A10) (fun n s => W n s.1 s.2.1 s.2.2.1 s.2.2.2.1 s.2.2.2.2.1 s.2.2.2.2.2.1 s.2.2.2.2.2.2.1 s.2.2.2.2.2.2.2.1 s.2.2.2.2.2.2.2.2.1 s.2.2.2.2.2.2.2.2.2) (fun s => I s.1 s.2.1 s.2.2.1 s.2.2.2.1 s.2.2.2.2.1 s.2.2.2.2.2.1 s.2.2.2.2.2.2.1 s.2.2.2.2.2.2.2.1 s.2.2.2.2.2.2.2.2.1 s.2.2.2.2.2.2.2.2.2) (fun s => μ s.1 s.2.1 s.2.2.1 s.2.2.2.1 s.2.2.2.2.1 s.2.2.2.2.2.1 s.2.2.2.2.2.2.1 s.2.2.2.2.2.2.2.1 s.2.2.2.2.2.2.2.2.1 s.2.2.2.2.2.2.2.2.2) (fun n s hI hk => hs n s.1 s.2.1 s.2.2.1 s.2.2.2.1 s.2.2.2.2.1 s.2.2.2.2.2.1 s.2.2.2.2.2.2.1 s.2.2.2.2.2.2.2.1 s.2.2.2.2.2.2.2.2.1 s.2.2.2.2.2.2.2.2.2 hI (fun b1 b2 b3 b4 b5 b6 b7 b8 b9 b10 h9 hm => hk (b1, b2, b3, b4, b5, b6, b7, b8, b9, b10) h9 hm)) (a1, a2, a3, a4, a5, a6, a7, a8, a9, a10) h
theorem lp11 {A1 A2 A3 A4 A5 A6 A7 A8 A9 A10 A11 : Type} (W : Nat → A1 → A2 → A3 → A4 → A5 → A6 → A7 → A8 → A9 → A10 → A11 → Prop) (I : A1 → A2 → A3 → A4 → A5 → A6 → A7 → A8 → A9 → A10 → A11 → Prop) (μ : A1 → A2 → A3 → A4 → A5 → A6 → A7 → A8 → A9 → A10 → A11 → Nat) (hs : ∀ (n : Nat) (a1 : A1) (a2 : A2) (a3 : A3) (a4 : A4) (a5 : A5) (a6 : A6) (a7 : A7) (a8 : A8) (a9 : A9) (a10 : A10) (a11 : A11), I a1 a2 a3 a4 a5 a6 a7 a8 a9 a10 a11 → (∀ (b1 : A1) (b2 : A2) (b3 : A3) (b4 : A4) (b5 : A5) (b6 : A6) (b7 : A7) (b8 : A8) (b9 : A9) (b10 : A10) (b11 : A11), I b1 b2 b3 b4 b5 b6 b7 b8 b9 b10 b11 → μ b1 b2 b3 b4 b5 b6 b7 b8 b9 b10 b11 < μ a1 a2 a3 a4 a5 a6 a7 a8 a9 a10 a11 → W n b1 b2 b3 b4 b5 b6 b7 b8 b9 b10 b11) → W (n + 1) a1 a2 a3 a4 a5 a6 a7 a8 a9 a10 a11) (a1 : A1) (a2 : A2) (a3 : A3) (a4 : A4) (a5 : A5) (a6 : A6) (a7 : A7) (a8 : A8) (a9 : A9) (a10 : A10) (a11 : A11) (h : I a1 a2 a3 a4 a5 a6 a7 a8 a9 a10 a11) : ∃ n, W n a1 a2 a3 a4 a5 a6 a7 a8 a9 a10 a11 :=
  loop_m (σ := A1 × A2 × A3 × A4 × A5 × A6 × A7 × A8 × A9 × A10 × A11) (fun n s => W n s.1 s.2.1 s.2.2.1 s.2.2.2.1 s.2.2.2.2.1 s.2.2.2.2.2.1 s.2.2.2.2.2.2.1 s.2.2.2.2.2.2.2.1 s.2.2.2.2.2.2.2.2.1 s.2.2.2.2.2.2.2.2.2.1 s.2.2.2.2.2.2.2.2.2.2) (fun s => I s.1 s.2.1 s.2.2.1 s.2.2.2.1 s.2.2.2.2.1 s.2.2.2.2.2.1 s.2.2.2.2.2.2.1 s.2.2.2.2.2.2.2.1 s.2.2.2.2.2.2.2.2.1 s.2.2.2.2.2.2.2.2.2.1 s.2.2.2.2.2.2.2.2.2.2) (fun s => μ s.1 s.2.1 s.2.2.1 s.2.2.2.1 s.2.2.2.2.1 s.2.2.2.2.2.1 s.2.2.2.2.2.2.1 s.2.2.2.2.2.2.2.1 s.2.2.2.2.2.2.2.2.1 s.2.2.2.2.2.2.2.2.2.1 s.2.2.2.2.2.2.2.2.2.2) (fun n s hI hk => hs n s.1 s.2.1 s.2.2.1 s.2.2.2.1 s.2.2.2.2.1 s.2.2.2.2.2.1 s.2.2.2.2.2.2.1 s.2.2.2.2.2.2.2.1 s.2.2.2.2.2.2.2.2.1 s.2.2.2.2.2.2.2.2.2.1 s.2.2.2.2.2.2.2.2.2.2 hI (fun b1 b2 b3 b4 b5 b6 b7 b8 b9 b10 b11 h9 hm => hk (b1, b2, b3, b4, b5, b6, b7, b8, b9, b10, b11) h9 hm)) (a1, a2, a3, a4, a5, a6, a7, a8, a9, a10, a11) h
theorem lp12 {A1 A2 A3 A4 A5 A6 A7 A8 A9 A10 A11 A12 : Type} (W : Nat → A1 → A2 → A3 → A4 → A5 → A6 → A7 → A8 → A9 → A10 → A11 → A12 → Prop) (I : A1 → A2 → A3 → A4 → A5 → A6 → A7 → A8 → A9 → A10 → A11 → A12 → Prop) (μ : A1 → A2 → A3 → A4 → A5 → A6 → A7 → A8 → A9 → A10 → A11 → A12 → Nat) (hs : ∀ (n : Nat) (a1 : A1) (a2 : A2) (a3 : A3) (a4 : A4) (a5 : A5) (a6 : A6) (a7 : A7) (a8 : A8) (a9 : A9) (a10 : A10) (a11 : A11) (a12 : A12), I a1 a2 a3 a4 a5 a6 a7 a8 a9 a10 a11 a12 → (∀ (b1 : A1) (b2 : A2) (b3 : A3) (b4 : A4) (b5 : A5) (b6 : A6) (b7 : A7) (b8 : A8) (b9 : A9) (b10 : A10) (b11 : A11) (b12 : A12), I b1 b2 b3 b4 b5 b6 b7 b8 b9 b10 b11 b12 → μ b1 b2 b3 b4 b5 b6 b7 b8 b9 b10 b11 b12 < μ a1 a2 a3 a4 a5 a6 a7 a8 a9 a10 a11 a12 → W n b1 b2 b3 b4 b5 b6 b7 b8 b9 b10 b11 b12) → W (n + 1) a1 a2 a3 a4 a5 a6 a7 a8 a9 a10 a11 a12) (a1 : A1) (a2 : A2) (a3 : A3) (a4 : A4) (a5 : A5) (a6 : A6) (a7 : A7) (a8 : A8) (a9 : A9) (a10 : A10) (a11 : A11) (a12 : A12) (h : I a1 a2 a3 a4 a5 a6 a7 a8 a9 a10 a11 a12) : ∃ n, W n a1 a2 a3 a4 a5 a6 a7 a8 a9 a10 a11 a12 :=
  loop_m (σ := A1 × A2 × A3 × A4 × A5 × A6 × A7 × A8 × A9 × A10 × A11 × A12) (fun n s => W n s.1 s.2.1 s.2.2.1 s.2.2.2.1 s.2.2.2.2.1 s.2.2.2.2.2.1 s.2.2.2.2.2.2.1 s.2.2.2.2.2.2.2.1 s.2.2.2.2.2.2.2.2.1 s.2.2.2.2.2.2.2.2.2.1 s.2.2.2.2.2.2.2.2.2.2.1 s.2.2.2.2.2.2.2.2.2.2.2) (fun s => I s.1 s.2.1 s.2.2.1 s.2.2.2.1 s.2.2.2.2.1 s.2.2.2.2.2.1 s.2.2.2.2.2.2.1 s.2.2.2.2.2.2.2.1 s.2.2.2.2.2.2.2.2.1 s.2.2.2.2.2.2.2.2.2.1 s.2.2.2.2.2.2.2.2.2.2.1 s.2.2.2.2.2.2.2.2.2.2.2) (fun s => μ s.1 s.2.1 s.2.2.1 s.2.2.2.1 s.2.2.2.2.1 s.2.2.2.2.2.1 s.2.2.2.2.2.2.1 s.2.2.2.2.2.2.2.1 s.2.2.2.2.2.2.2.2.1 s.2.2.2.2.2.2.2.2.2.1 s.2.2.2.2.2.2.2.2.2.2.1 s.2.2.2.2.2.2.2.2.2.2.2) (fun n s hI hk => hs n s.1 s.2.1 s.2.2.1 s.2.2.2.1 s.2.2.2.2.1 s.2.2.2.2.2.1 s.2.2.2.2.2.2.1 s.2.2.2.2.2.2.2.1 s.2.2.2.2.2.2.2.2.1 s.2.2.2.2.2.2.2.2.2.1 s.2.2.2.2.2.2.2.2.2.2.1 s.2.2.2.2.2.2.2.2.2.2.2 hI (fun b1 b2 b3 b4 b5 b6 b7 b8 b9 b10 b11 b12 h9 hm => hk (b1, b2, b3, b4, b5, b6, b7, b8, b9, b10, b11, b12) h9 hm)) (a1, a2, a3, a4, a5, a6, a7, a8, a9, a10, a11, a12) h
theorem lp13 {A1 A2 A3 A4 A5 A6 A7 A8 A9 A10 A11 A12 A13 : Type} (W : Nat → A1 → A2 → A3 → A4 → A5 → A6 → A7 → A8 → A9 → A10 → A11 → A12 → A13 → Prop) (I : A1 → A2 → A3 → A4 → A5 → A6 → A7 → A8 → A9 → A10 → A11 → A12 → A13 → Prop) (μ : A1 → A2 → A3 → A4 → A5 → A6 → A7 → A8 → A9 → A10 → A11 → A12 → A13 → Nat) (hs : ∀ (n : Nat) (a1 : A1) (a2 : A2) (a3 : A3) (a4 : A4) (a5 : A5) (a6 : A6) (a7 : A7) (a8 : A8) (a9 : A9) (a10 : A10) (a11 : A11) (a12 : A12) (a13 : A13), I a1 a2 a3 a4 a5 a6 a7 a8 a9 a10 a11 a12 a13 → (∀ (b1 : A1) (b2 : A2) (b3 : A3) (b4 : A4) (b5 : A5) (b6 : A6) (b7 : A7) (b8 : A8) (b9 : A9) (b10 : A10) (b11 : A11) (b12 : A12) (b13 : A13), I b1 b2 b3 b4 b5 b6 b7 b8 b9 b10 b11 b12 b13 → μ b1 b2 b3 b4 b5 b6 b7 b8 b9 b10 b11 b12 b13 < μ a1 a2 a3 a4 a5 a6 a7 a8 a9 a10 a11 a12 a13 → W n b1 b2 b3 b4 b5 b6 b7 b8 b9 b10 b11 b12 b13) → W (n + 1) a1 a2 a3 a4 a5 a6 a7 a8 a9 a10 a11 a12 a13) (a1 : A1) (a2 : A2) (a3 : A3) (a4 : A4) (a5 : A5) (a6 : A6) (a7 : A7) (a8 : A8) (a9 : A9) (a10 : A10) (a11 : A11) (a12 : A12) (a13 : A13) (h : I a1 a2 a3 a4 a5 a6 a7 a8 a9 a10 a11 a12 a13) : ∃ n, W n a1 a2 a3 a4 a5 a6 a7 a8 a9 a10 a11 a12 a13 :=
  loop_m (σ := A1 × A2 × A3 × A4 × A5 × A6 × A7 × A8 × A9 × A10 × A11 × A12 × A13) (fun n s => W n s.1 s.2.1 s.2.2.1 s.2.2.2.1 s.2.2.2.2.1 s.2.2.2.2.2.1 s.2.2.2.2.2.2.1 s.2.2.2.2.2.2.2.1 s.2.2.2.2.2.2.2.2.1 s.2.2.2.2.2.2.2.2.2.1 s.2.2.2.2.2.2.2.2.2.2.1 s.2.2.2.2.2.2.2.2.2.2.2.1 s.2.2.2.2.2.2.2.2.2.2.2.2) (fun s => I s.1 s.2.1 s.2.2.1 s.2.2.2.1 s.2.2.2.2.1 s.2.2.2.2.2.1 s.2.2.2.2.2.2.1 s.2.2.2.2.2.2.2.1 s.2.2.2.2.2.2.2.2.1 s.2.2.2.2.2.2.2.2.2.1 s.2.2.2.2.2.2.2.2.2.2.1 s.2.2.2.2.2.2.2.2.2.2.2.1 s.2.2.2.2.2.2.2.2.2.2.2.2) (fun s => μ s.1 s.2.1 s.2.2.1 s.2.2.2.1 s.2.2.2.2.1 s.2.2.2.2.2.1 s.2.2.2.2.2.2.1 s.2.2.2.2.2.2.2.1 s.2.2.2.2.2.2.2.2.1 s.2.2.2.2.2.2.2.2.2.1 s.2.2.2.2.2.2.2.2.2.2.1 s.2.2.2.2.2.2.2.2.2.2.2.1 s.2.2.2.2.2.2.2.2.2.2.2.2) (fun n s hI hk => hs n s.1 s.2.1 s.2.2.1 s.2.2.2.1 s.2.2.2.2.1 s.2.2.2.2.2.1 s.2.2.2.2.2.2.1 s.2.2.2.2.2.2.2.1 s.2.2.2.2.2.2.2.2.1 s.2.2.2.2.2.2.2.2.2.1 s.2.2.2.2.2.2.2.2.2.2.1 s.2.2.2.2.2.2.2.2.2.2.2.1 s.2.2.2.2.2.2.2.2.2.2.2.2 hI (fun b1 b2 b3 b4 b5 b6 b7 b8 b9 b10 b11 b12 b13 h9 hm => hk (b1, b2, b3, b4, b5, b6, b7, b8, b9, b10, b11, b12, b13) h9 hm)) (a1, a2, a3, a4, a5, a6, a7, a8, a9, a10, a11, a12, a13) h
theorem lp14 {A1 A2 A3 A4 A5 A6 A7 A8 A9 A10 A11 A12 A13 A14 : Type} (W : Nat → A1 → A2 → A3 → A4 → A5 → A6 → A7 → A8 → A9 → A10 → A11 → A12 → A13 → A14 → Prop) (I : A1 → A2 → A3 → A4 → A5 → A6 → A7 → A8 → A9 → A10 → A11 → A12 → A13 → A14 → Prop) (μ : A1 → A2 → A3 → A4 → A5 → A6 → A7 → A8 → A9 → A10 → A11 → A12 → A13 → A14 → Nat) (hs : ∀ (n : Nat) (a1 : A1) (a2 : A2) (a3 : A3) (a4 : A4) (a5 : A5) (a6 : A6) (a7 : A7) (a8 : A8) (a9 : A9) (a10 : A10) (a11 : A11) (a12 : A12) (a13 : A13) (a14 : A14), I a1 a2 a3 a4 a5 a6 a7 a8 a9 a10 a11 a12 a13 a14 → (∀ (b1 : A1) (b2 : A2) (b3 : A3) (b4 : A4) (b5 : A5) (b6 : A6) (b7 : A7) (b8 : A8) (b9 : A9) (b10 : A10) (b11 : A11) (b12 : A12) (b13 : A13) (b14 : A14), I b1 b2 b3 b4 b5 b6 b7 b8 b9 b10 b11 b12 b13 b14 → μ b1 b2 b3 b4 b5 b6 b7 b8 b9 b10 b11 b12 b13 b14 < μ a1 a2 a3 a4 a5 a6 a7 a8 a9 a10 a11 a12 a13 a14 → W n b1 b2 b3 b4 b5 b6 b7 b8 b9 b10 b11 b12 b13 b14) → W (n + 1) a1 a2 a3 a4 a5 a6 a7 a8 a9 a10 a11 a12 a13 a14) (a1 : A1) (a2 : A2) (a3 : A3) (a4 : A4) (a5 : A5) (a6 : A6) (a7 : A7) (a8 : A8) (a9 : A9) (a10 : A10) (a11 : A11) (a12 : A12) (a13 : A13) (a14 : A14) (h : I a1 a2 a3 a4 a5 a6 a7 a8 a9 a10 a11 a12 a13 a14) : ∃ n, W n a1 a2 a3 a4 a5 a6 a7 a8 a9 a10 a11 a12 a13 a14 :=
  loop_m (σ := A1 × A2 × A3 × A4 × A5 × A6 × A7 × A8 × A9 × A10 × A11 × A12 × A13 × A14) (fun n s => W n s.1 s.2.1 s.2.2.1 s.2.2.2.1 s.2.2.2.2.1 s.2.2.2.2.2.1 s.2.2.2.2.2.2.1 s.2.2.2.2.2.2.2.1 s.2.2.2.2.2.2.2.2.1 s.2.2.2.2.2.2.2.2.2.1 s.2.2.2.2.2.2.2.2.2.2.1 s.2.2.2.2.2.2.2.2.2.2.2.1 s.2.2.2.2.2.2.2.2.2.2.2.2.1 s.2.2.2.2.2.2.2.2.2.2.2.2.2) (fun s => I s.1 s.2.1 s.2.2.1 s.2.2.2.1 s.2.2.2.2.1 s.2.2.2.2.2.1 s.2.2.2.2.2.2.1 s.2.2.2.2.2.2.2.1 s.2.2.2.2.2.2.2.2.1 s.2.2.2.2.2.2.2.2.2.1 s.2.2.2.2.2.2.2.2.2.2.1 s.2.2.2.2.2.2.2.2.2.2.2.1 s.2.2.2.2.2.2.2.2.2.2.2.2.1 s.2.2.2.2.2.2.2.2.2.2.2.2.2) (fun s => μ s.1 s.2.1 s.2.2.1 s.2.2.2.1 s.2.2.2.2.1 s.2.2.2.2.2.1 s.2.2.2.2.2.2.1 s.2.2.2.2.2.2.2.1 s.2.2.2.2.2.2.2.2.1 s.2.2.2.2.2.2.2.2.2.1 s.2.2.2.2.2.2.2.2.2.2.1 s.2.2.2.2.2.2.2.2.2.2.2.1 s.2.2.2.2.2.2.2.2.2.2.2.2.1 s.2.2.2.2.2.2.2.2.2.2.2.2.2) (fun n s hI hk => hs n s.1 s.2.1 s.2.2.1 s.2.2.2.1 s.2.2.2.2.1 s.2.2.2.2.2.1 s.2.2.2.2.2.2.1 s.2.2.2.2.2.2.2.1 s.2.2.2.2.2.2.2.2.1 s.2.2.2.2.2.2.2.2.2.1 s.2.2.2.2.2.2.2.2.2.2.1 s.2.2.2.2.2.2.2.2.2.2.2.1 s.2.2.2.2.2.2.2.2.2.2.2.2.1 s.2.2.2.2.2.2.2.2.2.2.2.2.2 hI (fun b1 b2 b3 b4 b5 b6 b7 b8 b9 b10 b11 b12 b13 b14 h9 hm => hk (b1, b2, b3, b4, b5, b6, b7, b8, b9, b10, b11, b12, b13, b14) h9 hm)) (a1, a2, a3, a4, a5, a6, a7, a8, a9, a10, a11, a12, a13, a14) h
theorem lp15 {A1 A2 A3 A4 A5 A6 A7 A8 A9 A10 A11 A12 A13 A14 A15 : Type} (W : Nat → A1 → A2 → A3 → A4 → A5 → A6 → A7 → A8 → A9 → A10 → A11 → A12 → A13 → A14 → A15 → Prop) (I : A1 → A2 → A3 → A4 → A5 → A6 → A7 → A8 → A9 → A10 → A11 → A12 → A13 → A14 → A15 → Prop) (μ : A1 → A2 → A3 → A4 → A5 → A6 → A7 → A8 → A9 → A10 → A11 → A12 → A13 → A14 → A15 → Nat) (hs : ∀ (n : Nat) (a1 : A1) (a2 : A2) (a3 : A3) (a4 : A4) (a5 : A5) (a6 : A6) (a7 : A7) (a8 : A8) (a9 : A9) (a10 : A10) (a11 : A11) (a12 : A12) (a13 : A13) (a14 : A14) (a15 : A15), I a1 a2 a3 a4 a5 a6 a7 a8 a9 a10 a11 a12 a13 a14 a15 → (∀ (b1 : A1) (b2 : A2) (b3 : A3) (b4 : A4) (b5 : A5) (b6 : A6) (b7 : A7) (b8 : A8) (b9 : A9) (b10 : A10) (b11 : A11) (b12 : A12) (b13 : A13) (b14 : A14) (b15 : A15), I b1 b2 b3 b4 b5 b6 b7 b8 b9 b10 b11 b12 b13 b14 b15 → μ b1 b2 b3 b4 b5 b6 b7 b8 b9 b10 b11 b12 b13 b14 b15 < μ a1 a2 a3 a4 a5 a6 a7 a8 a9 a10 a11 a12 a13 a14 a15 → W n b1 b2 b3 b4 b5 b6 b7 b8 b9 b10 b11 b12 b13 b14 b15) → W (n + 1) a1 a2 a3 a4 a5 a6 a7 a8 a9 a10 a11 a12 a13 a14 a15) (a1 : A1) (a2 : A2) (a3 : A3) (a4 : A4) (a5 : A5) (a6 : A6) (a7 : A7) (a8 : A8) (a9 : A9) (a10 : A10) (a11 : A11) (a12 : A12) (a13 : A13) (a14 : A14) (a15 : A15) (h : I a1 a2 a3 a4 a5 a6 a7 a8 a9 a10 a11 a12 a13 a14 a15) : ∃ n, W n a1 a2 a3 a4 a5 a6 a7 a8 a9 a10 a11 a12 a13 a14 a15 :=
  loop_m (σ := A1 × A2 × A3 × A4 × A5 × A6 × A7 × A8 × A9 × A10 × A11 × A12 × A13 × A14 × A15) (fun n s => W n s.1 s.2.1 s.2.2.1 s.2.2.2.1 s.2.2.2.2.1 s.2.2.2.2.2.1 s.2.2.2.2.2.2.1 s.2.2.2.2.2.2.2.1 s.2.2.2.2.2.2.2.2.1 s.2.2.2.2.2.2.2.2.2.1 s.2.2.2.2.2.2.2.2.2.2.1 s.2.2.2.2.2.2.2.2.2.2.2.1 s.2.2.2.2.2.2.2.2.2.2.2.2.1 s.2.2.2.2.2.2.2.2.2.2.2.2.2.1 s.2.2.2.2.2.2.2.2.2.2.2.2.2.2) (fun s => I s.1 s.2.1 s.2.2.1 s.2.2.2.1 s.2.2.2.2.1 s.2.2.2.2.2.1 s.2.2.2.2.2.2.1 s.2.2.2.2.2.2.2.1 s.2.2.2.2.2.2.2.2.1 s.2.2.2.2.2.2.2.2.2.1 s.2.2.2.2.2.2.2.2.2.2.1 s.2.2.2.2.2.2.2.2.2.2.2.1 s.2.2.2.2.2.2.2.2.2.2.2.2.1 s.2.2.2.2.2.2.2.2.2.2.2.2.2.1 s.2.2.2.2.2.2.2.2.2.2.2.2.2.2) (fun s => μ s.1 s.2.1 s.2.2.1 s.2.2.2.1 s.2.2.2.2.1 s.2.2.2.2.2.1 s.2.2.2.2.2.2.1 s.2.2.2.2.2.2.2.1 s.2.2.2.2.2.2.2.2.1 s.2.2.2.2.2.2.2.2.2.1 s.2.2.2.2.2.2.2.2.2.2.1 s.2.2.2.2.2.2.2.2.2.2.2.1 s.2.2.2.2.2.2.2.2.2.2.2.2.1 s.2.2.2.2.2.2.2.2.2.2.2.2.2.1 s.2.2.2.2.2.2.2.2.2.2.2.2.2.2) (fun n s hI hk => hs n s.1 s.2.1 s.2.2.1 s.2.2.2.1 s.2.2.2.2.1 s.2.2.2.2.2.1 s.2.2.2.2.2.2.1 s.2.2.2.2.2.2.2.1 s.2.2.2.2.2.2.2.2.1 s.2.2.2.2.2.2.2.2.2.1 s.2.2.2.2.2.2.2.2.2.2.1 s.2.2.2.2.2.2.2.2.2.2.2.1 s.2.2.2.2.2.2.2.2.2.2.2.2.1 s.2.2.2.2.2.2.2.2.2.2.2.2.2.1 s.2.2.2.2.2.2.2.2.2.2.2.2.2.2 hI (fun b1 b2 b3 b4 b5 b6 b7 b8 b9 b10 b11 b12 b13 b14 b15 h9 hm => hk (b1, b2, b3, b4, b5, b6, b7, b8, b9, b10, b11, b12, b13, b14, b15) h9 hm)) (a1, a2, a3, a4, a5, a6, a7, a8, a9, a10, a11, a12, a13, a14, a15) h
theorem lp16 {A1 A2 A3 A4 A5 A6 A7 A8 A9 A10 A11 A12 A13 A14 A15 A16 : Type} (W : Nat → A1 → A2 → A3 → A4 → A5 → A6 → A7 → A8 → A9 → A10 → A11 → A12 → A13 → A14 → A15 → A16 → Prop) (I : A1 → A2 → A3 → A4 → A5 → A6 → A7 → A8 → A9 → A10 → A11 → A12 → A13 → A14 → A15 → A16 → Prop) (μ : A1 → A2 → A3 → A4 → A5 → A6 → A7 → A8 → A9 → A10 → A11 → A12 → A13 → A14 → A15 → A16 → Nat) (hs : ∀ (n : Nat) (a1 : A1) (a2 : A2) (a3 : A3) (a4 : A4) (a5 : A5) (a6 : A6) (a7 : A7) (a8 : A8) (a9 : A9) (a10 : A10) (a11 : A11) (a12 : A12) (a13 : A13) (a14 : A14) (a15 : A15) (a16 : A16), I a1 a2 a3 a4 a5 a6 a7 a8 a9 a10 a11 a12 a13 a14 a15 a16 → (∀ (b1 : A1) (b2 : A2) (b3 : A3) (b4 : A4) (b5 : A5) (b6 : A6) (b7 : A7) (b8 : A8) (b9 : A9) (b10 : A10) (b11 : A11) (b12 : A12) (b13 : A13) (b14 : A14) (b15 : A15) (b16 : A16), I b1 b2 b3 b4 b5 b6 b7 b8 b9 b10 b11 b12 b13 b14 b15 b16 → μ b1 b2 b3 b4 b5 b6 b7 b8 b9 b10 b11 b12 b13 b14 b15 b16 < μ a1 a2 a3 a4 a5 a6 a7 a8 a9 a10 a11 a12 a13 a14 a15 a16 → W n b1 b2 b3 b4 b5 b6 b7 b8 b9 b10 b11 b12 b13 b14 b15 b16) → W (n + 1) a1 a2 a3 a4 a5 a6 a7 a8 a9 a10 a11 a12 a13 a14 a15 a16) (a1 : A1) (a2 : A2) (a3 : A3) (a4 : A4) (a5 : A5) (a6 : A6) (a7 : A7) (a8 : A8) (a9 : A9) (a10 : A10) (a11 : A11) (a12 : A12) (a13 : A13) (a14 : A14) (a15 : A15) (a16 : A16) (h : I a1 a2 a3 a4 a5 a6 a7 a8 a9 a10 a11 a12 a13 a14 a15 a16) : ∃ n, W n a1 a2 a3 a4 a5 a6 a7 a8 a9 a10 a11 a12 a13 a14 a15 a16 :=
  loop_m (σ := A1 × A2 × A3 × A4 × A5 × A6 × A7 × A8 × A9 × A10 × A11 × A12 × A13 × A14 × A15 × A16) (fun n s => W n s.1 s.2.1 s.2.2.1 s.2.2.2.1 s.2.2.2.2.1 s.2.2.2.2.2.1 s.2.2.2.2.2.2.1 s.2.2.2.2.2.2.2.1 s.2.2.2.2.2.2.2.2.1 s.2.2.2.2.2.2.2.2.2.1 s.2.2.2.2.2.2.2.2.2.2.1 s.2.2.2.2.2.2.2.2.2.2.2.1 s.2.2.2.2.2.2.2.2.2.2.2.2.1 s.2.2.2.2.2.2.2.2.2.2.2.2.2.1 s.2.2.2.2.2.2.2.2.2.2.2.2.2.2.1 s.2.2.2.2.2.2.2.2.2.2.2.2.2.2.2) (fun s => I s.1 s.2.1 s.2.2.1 s.2.2.2.1 s.2.2.2.2.1 s.2.2.2.2.2.1 s.2.2.2.2.2.2.1 s.2.2.2.2.2.2.2.1 s.2.2.2.2.2.2.2.2.1 s.2.2.2.2.2.2.2.2.2.1 s.2.2.2.2.2.2.2.2.2.2.1 s.2.2.2.2.2.2.2.2.2.2.2.1 s.2.2.2.2.2.2.2.2.2.2.2.2.1 s.2.2.2.2.2.2.2.2.2.2.2.2.2.1 s.2.2.2.2.2.2.2.2.2.2.2.2.2.2.1 s.2.2.2.2.2.2.2.2.2.2.2.2.2.2.2) (fun s => μ s.1 s.2.1 s.2.2.1 s.2.2.2.1 s.2.2.2.2.1 s.2.2.2.2.2.1 s.2.2.2.2.2.2.1 s.2.2.2.2.2.2.2.1 s.2.2.2.2.2.2.2.2.1 s.2.2.2.2.2.2.2.2.2.1 s.2.2.2.2.2.2.2.2.2.2.1 s.2.2.2.2.2.2.2.2.2.2.2.1 s.2.2.2.2.2.2.2.2.2.2.2.2.1 s.2.2.2.2.2.2.2.2.2.2.2.2.2.1 s.2.2.2.2.2.2.2.2.2.2.2.2.2.2.1 s.2.2.2.2.2.2.2.2.2.2.2.2.2.2.2) (fun n s hI hk => hs n s.1 s.2.1 s.2.2.1 s.2.2.2.1 s.2.2.2.2.1 s.2.2.2.2.2.1 s.2.2.2.2.2.2.1 s.2.2.2.2.2.2.2.1 s.2.2.2.2.2.2.2.2.1 s.2.2.2.2.2.2.2.2.2.1 s.2.2.2.2.2.2.2.2.2.2.1 s.2.2.2.2.2.2.2.2.2.2.2.1 s.2.2.2.2.2.2.2.2.2.2.2.2.1 s.2.2.2.2.2.2.2.2.2.2.2.2.2.1 s.2.2.2.2.2.2.2.2.2.2.2.2.2.2.1 s.2.2.2.2.2.2.2.2.2.2.2.2.2.2.2 hI (fun b1 b2 b3 b4 b5 b6 b7 b8 b9 b10 b11 b12 b13 b14 b15 b16 h9 hm => hk (b1, b2, b3, b4, b5, b6, b7, b8, b9, b10, b11, b12, b13, b14, b15, b16) h9 hm)) (a1, a2, a3, a4, a5, a6, a7, a8, a9, a10, a11, a12, a13, a14, a15, a16) h
theorem pk_least (P : Nat → Prop) (h : ∃ k, P k) : ∃ k, P k ∧ ∀ j, j < k → ¬ P j := by
  obtain ⟨k, hk⟩ := h
  induction k using Nat.strongRecOn with
  | ind k ih =>
    by_cases e : ∃ j, j < k ∧ P j
    · obtain ⟨j, hj, pj⟩ := e
      exact ih j hj pj
    · exact ⟨k, hk, fun j hj pj => e ⟨j, hj, pj⟩⟩
theorem rp1 {ρ A1 : Type} (W : Nat → (ρ → Prop) → A1 → Prop) (ok : A1 → Prop) (μ : A1 → Nat) (val : A1 → ρ)
    (hs : ∀ (d : Nat) (post : ρ → Prop) (a1 : A1), ok a1 → post (val a1) → (∀ (post' : ρ → Prop) (b1 : A1), ok b1 → μ b1 < μ a1 → post' (val b1) → W d post' b1) → W (d + 1) post a1) :
    ∀ (d : Nat) (post : ρ → Prop) (a1 : A1), ok a1 → μ a1 < d → post (val a1) → W d post a1 := by
  intro d
  induction d with
  | zero => intro post a1 _ h; omega
  | succ d ih =>
    intro post a1 ho hm hp
    exact hs d post a1 ho hp (fun post' b1 ho' hm' hp' => ih post' b1 ho' (by omega) hp')
theorem rp2 {ρ A1 A2 : Type} (W : Nat → (ρ → Prop) → A1 → A2 → Prop) (ok : A1 → A2 → Prop) (μ : A1 → A2 → Nat) (val : A1 → A2 → ρ)
    (hs : ∀ (d : Nat) (post : ρ → Prop) (a1 : A1) (a2 : A2), ok a1 a2 → post (val a1 a2) → (∀ (post' : ρ → Prop) (b1 : A1) (b2 : A2), ok b1 b2 → μ b1 b2 < μ a1 a2 → post' (val b1 b2) → W d post' b1 b2) → W (d + 1) post a1 a2) :
    ∀ (d : Nat) (post : ρ → Prop) (a1 : A1) (a2 : A2), ok a1 a2 → μ a1 a2 < d → post (val a1 a2) → W d post a1 a2 := by
  intro d
  induction d with
  | zero => intro post a1 a2 _ h; omega
  | succ d ih =>
    intro post a1 a2 ho hm hp
    exact hs d post a1 a2 ho hp (fun post' b1 b2 ho' hm' hp' => ih post' b1 b2 ho' (by omega) hp')
theorem rp3 {ρ A1 A2 A3 : Type} (W : Nat → (ρ → Prop) → A1 → A2 → A3 → Prop) (ok : A1 → A2 → A3 → Prop) (μ : A1 → A2 → A3 → Nat) (val : A1 → A2 → A3 → ρ)
    (hs : ∀ (d : Nat) (post : ρ → Prop) (a1 : A1) (a2 : A2) (a3 : A3), ok a1 a2 a3 → post (val a1 a2 a3) → (∀ (post' : ρ → Prop) (b1 : A1) (b2 : A2) (b3 : A3), ok b1 b2 b3 → μ b1 b2 b3 < μ a1 a2 a3 → post' (val b1 b2 b3) → W d post' b1 b2 b3) → W (d + 1) post a1 a2 a3) :
    ∀ (d : Nat) (post : ρ → Prop) (a1 : A1) (a2 : A2) (a3 : A3), ok a1 a2 a3 → μ a1 a2 a3 < d → post (val a1 a2 a3) → W d post a1 a2 a3 := by
  intro d
  induction d with
  | zero => intro post a1 a2 a3 _ h; omega
  | succ d ih =>
    intro post a1 a2 a3 ho hm hp
    exact hs d post a1 a2 a3 ho hp (fun post' b1 b2 b3 ho' hm' hp' => ih post' b1 b2 b3 ho' (by omega) hp')
theorem rp4 {ρ A1 A2 A3 A4 : Type} (W : Nat → (ρ → Prop) → A1 → A2 → A3 → A4 → Prop) (ok : A1 → A2 → A3 → A4 → Prop) (μ : A1 → A2 → A3 → A4 → Nat) (val : A1 → A2 → A3 → A4 → ρ)
    (hs : ∀ (d : Nat) (post : ρ → Prop) (a1 : A1) (a2 : A2) (a3 : A3) (a4 : A4), ok a1 a2 a3 a4 → post (val a1 a2 a3 a4) → (∀ (post' : ρ → Prop) (b1 : A1) (b2 : A2) (b3 : A3) (b4 : A4), ok b1 b2 b3 b4 → μ b1 b2 b3 b4 < μ a1 a2 a3 a4 → post' (val b1 b2 b3 b4) → W d post' b1 b2 b3 b4) → W (d + 1) post a1 a2 a3 a4) :
    ∀ (d : Nat) (post : ρ → Prop) (a1 : A1) (a2 : A2) (a3 : A3) (a4 : A4), ok a1 a2 a3 a4 → μ a1 a2 a3 a4 < d → post (val a1 a2 a3 a4) → W d post a1 a2 a3 a4 := by
  intro d
  induction d with
  | zero => intro post a1 a2 a3 a4 _ h; omega
  | succ d ih =>
    intro post a1 a2 a3 a4 ho hm hp
    exact hs d post a1 a2 a3 a4 ho hp (fun post' b1 b2 b3 b4 ho' hm' hp' => ih post' b1 b2 b3 b4 ho' (by omega) hp')
theorem rp5 {ρ A1 A2 A3 A4 A5 : Type} (W : Nat → (ρ → Prop) → A1 → A2 → A3 → A4 → A5 → Prop) (ok : A1 → A2 → A3 → A4 → A5 → Prop) (μ : A1 → A2 → A3 → A4 → A5 → Nat) (val : A1 → A2 → A3 → A4 → A5 → ρ)
    (hs : ∀ (d : Nat) (post : ρ → Prop) (a1 : A1) (a2 : A2) (a3 : A3) (a4 : A4) (a5 : A5), ok a1 a2 a3 a4 a5 → post (val a1 a2 a3 a4 a5) → (∀ (post' : ρ → Prop) (b1 : A1) (b2 : A2) (b3 : A3) (b4 : A4) (b5 : A5), ok b1 b2 b3 b4 b5 → μ b1 b2 b3 b4 b5 < μ a1 a2 a3 a4 a5 → post' (val b1 b2 b3 b4 b5) → W d post' b1 b2 b3 b4 b5) → W (d + 1) post a1 a2 a3 a4 a5) :
    ∀ (d : Nat) (post : ρ → Prop) (a1 : A1) (a2 : A2) (a3 : A3) (a4 : A4) (a5 : A5), ok a1 a2 a3 a4 a5 → μ a1 a2 a3 a4 a5 < d → post (val a1 a2 a3 a4 a5) → W d post a1 a2 a3 a4 a5 := by
  intro d
  induction d with
  | zero => intro post a1 a2 a3 a4 a5 _ h; omega
  | succ d ih =>
    intro post a1 a2 a3 a4 a5 ho hm hp
    exact hs d post a1 a2 a3 a4 a5 ho hp (fun post' b1 b2 b3 b4 b5 ho' hm' hp' => ih post' b1 b2 b3 b4 b5 ho' (by omega) hp')
theorem rp6 {ρ A1 A2 A3 A4 A5 A6 : Type} (W : Nat → (ρ → Prop) → A1 → A2 → A3 → A4 → A5 → A6 → Prop) (ok : A1 → A2 → A3 → A4 → A5 → A6 → Prop) (μ : A1 → A2 → A3 → A4 → A5 → A6 → Nat) (val : A1 → A2 → A3 → A4 → A5 → A6 → ρ)
    (hs : ∀ (d : Nat) (post : ρ → Prop) (a1 : A1) (a2 : A2) (a3 : A3) (a4 : A4) (a5 : A5) (a6 : A6), ok a1 a2 a3 a4 a5 a6 → post (val a1 a2 a3 a4 a5 a6) → (∀ (post' : ρ → Prop) (b1 : A1) (b2 : A2) (b3 : A3) (b4 : A4) (b5 : A5) (b6 : A6), ok b1 b2 b3 b4 b5 b6 → μ b1 b2 b3 b4 b5 b6 < μ a1 a2 a3 a4 a5 a6 → post' (val b1 b2 b3 b4 b5 b6) → W d post' b1 b2 b3 b4 b5 b6) → W (d + 1) post a1 a2 a3 a4 a5 a6) :
    ∀ (d : Nat) (post : ρ → Prop) (a1 : A1) (a2 : A2) (a3 : A3) (a4 : A4) (a5 : A5) (a6 : A6), ok a1 a2 a3 a4 a5 a6 → μ a1 a2 a3 a4 a5 a6 < d → post (val a1 a2 a3 a4 a5 a6) → W d post a1 a2 a3 a4 a5 a6 := by
  intro d
  induction d with
  | zero => intro post a1 a2 a3 a4 a5 a6 _ h; omega
  | succ d ih =>
    intro post a1 a2 a3 a4 a5 a6 ho hm hp
    exact hs d post a1 a2 a3 a4 a5 a6 ho hp (fun post' b1 b2 b3 b4 b5 b6 ho' hm' hp' => ih post' b1 b2 b3 b4 b5 b6 ho' (by omega) hp')
theorem rec_p {σ ρ : Type} (W : Nat → (ρ → Prop) → σ → Prop) (ok : σ → Prop) (μ : σ → Nat) (val : σ → ρ)
    (hs : ∀ d s post, ok s → post (val s) → (∀ s' post', ok s' → μ s' < μ s → post' (val s') → W d post' s') → W (d + 1) post s) :
    ∀ d s post, ok s → μ s < d → post (val s) → W d post s := by
  intro d
  induction d with
  | zero => intro s post _ h; omega
  | succ d ih =>
    intro s post ho hm hp
    exact hs d s post ho hp (fun s' post' ho' hm' hp' => ih s' post' ho' (by omega) hp')
theorem rec_q {σ ρ : Type} (W : Nat → (ρ → Prop) → σ → Prop) (ok : σ → Prop) (μ : σ → Nat) (Q : σ → ρ → Prop)
    (hs : ∀ d s post, ok s → (∀ r, Q s r → post r) → (∀ s' post', ok s' → μ s' < μ s → (∀ r, Q s' r → post' r) → W d post' s') → W (d + 1) post s) :
    ∀ d s post, ok s → μ s < d → (∀ r, Q s r → post r) → W d post s := by
  intro d
  induction d with
  | zero => intro s post _ h; omega
  | succ d ih =>
    intro s post ho hm hp
    exact hs d s post ho hp (fun s' post' ho' hm' hp' => ih s' post' ho' (by omega) hp')
def bx_sum (f : Nat → Int32) : Nat → Int32
  | 0 => 0
  | n + 1 => bx_sum f n + f n
theorem ek_u {A : Prop} {B : Nat → Prop} {k N : Nat} (hk : k < N) (h : B k) : (some k = none → A) ∧ (∀ y : Nat, some k = some y → (y < N ∧ B y)) :=
  ⟨fun z => absurd z (Option.some_ne_none k), fun _ e => (by cases e; exact ⟨hk, h⟩)⟩
theorem ek_nu {A : Prop} {B : Nat → Prop} (h : A) : ((none : Option Nat) = none → A) ∧ (∀ y : Nat, (none : Option Nat) = some y → B y) :=
  ⟨fun _ => h, fun _ e => (by cases e)⟩
theorem ek_if {c d A B : Prop} (e : c ↔ d) (f : d → A) (g : ¬ d → B) : (c → A) ∧ (¬ c → B) :=
  ⟨fun z => f (e.mp z), fun z => g (fun y => z (e.mpr y))⟩
theorem ek_v {α : Sort _} {P : α → Prop} {a b : α} (e : a = b) (h : P b) : P a := e ▸ h
theorem co_some {x : Option Nat} {A : Prop} {B : Nat → Prop} (i : Nat) (h : B i) (hx : x = some i := by rfl) : (x = none → A) ∧ (∀ y : Nat, x = some y → B y) := by
  subst hx
  exact ⟨fun e => (nomatch e), fun y e => Option.some.inj e ▸ h⟩
theorem co_none {x : Option Nat} {A : Prop} {B : Nat → Prop} (h : A) (hx : x = none := by rfl) : (x = none → A) ∧ (∀ y : Nat, x = some y → B y) := by
  subst hx
  exact ⟨fun _ => h, fun y e => (nomatch e)⟩
theorem co_any {x : Option Nat} {A : Prop} {B : Nat → Prop} (hn : x = none → A) (hs : ∀ i : Nat, x = some i → B i) : (x = none → A) ∧ (∀ y : Nat, x = some y → B y) := ⟨hn, hs⟩
theorem co_2 {P : Nat → Prop} (h0 : P 0) (h1 : P 1) {i : Nat} (hi : i < 2) : P i :=
  match i, hi with
  | 0, _ => h0
  | 1, _ => h1
theorem co_3 {P : Nat → Prop} (h0 : P 0) (h1 : P 1) (h2 : P 2) {i : Nat} (hi : i < 3) : P i :=
  match i, hi with
  | 0, _ => h0
  | 1, _ => h1
  | 2, _ => h2
theorem co_4 {P : Nat → Prop} (h0 : P 0) (h1 : P 1) (h2 : P 2) (h3 : P 3) {i : Nat} (hi : i < 4) : P i :=
  match i, hi with
  | 0, _ => h0
  | 1, _ => h1
  | 2, _ => h2
  | 3, _ => h3
theorem co_dec {N : Nat} {P : Nat → Prop} [DecidablePred P] (h : (List.range N).all (fun i => decide (P i)) = true) {i : Nat} (hi : i < N) : P i := by
  have := List.all_eq_true.mp h i (List.mem_range.mpr hi)
  exact of_decide_eq_true this
theorem co_tab {α : Type} {l : List α} {d : α} {P : α → Prop} (h : ∀ a, a ∈ l → P a) {i : Nat} (hi : i < l.length) : P (l.getD i d) := by
  rw [List.getD_eq_getElem?_getD, List.getElem?_eq_getElem hi]
  exact h _ (List.getElem_mem hi)
theorem pk_mu {x : Int32} {L : Nat} (h0 : ¬ x < 0) (h : ¬ nI L ≤ x) (hL : L < 2 ^ 31) : ∃ j : Nat, j < L ∧ x = nI j ∧ x + 1 = nI (j + 1) ∧ x.toNatClampNeg = j ∧ L - (x + 1).toNatClampNeg < L - x.toNatClampNeg := by
  obtain ⟨j, hj, rfl⟩ := nI_of h0
  have hl : j < L := Nat.not_le.mp fun q => h (nI_le q hj)
  refine ⟨j, hl, rfl, nI_1 j, nI_clamp hj, ?_⟩
  rw [nI_1, nI_clamp (by omega), nI_clamp hj]
  omega
theorem op_s {α : Type} {r : Option α} {A : Prop} {B : α → Prop} {y : α} (h : r = some y) (b : B y) : (r = none → A) ∧ ∀ z, r = some z → B z :=
  ⟨fun e => (by rw [h] at e; cases e), fun z e => (by rw [h] at e; cases e; exact b)⟩
def l_holds {α : Type} (a : Nat → Option Nat) (LP : List Nat) (p : Nat → α) (c : Nat) (b : Nat → α) : Prop :=
  ∀ j, j < c → ∃ y, a j = some y ∧ y ∈ LP ∧ p y = b j
theorem l_holds_0 {α : Type} {a : Nat → Option Nat} {LP : List Nat} {p b : Nat → α} : l_holds a LP p 0 b := fun j h => absurd h (Nat.not_lt_zero j)
theorem l_in_new (LP : List Nat) (q : Nat) : q ∈ LP ++ [q] := List.mem_append.mpr (Or.inr (List.mem_singleton.mpr rfl))
def l_sum (b : Nat → Int32) : Nat → Int32
  | 0 => 0
  | k + 1 => l_sum b k + b k
theorem sb_shr0 (x : Int32) : x >>> ((0 : Int32) &&& 31) = x := by
  rw [show ((0 : Int32) &&& 31) = 0 by decide]
  simp
theorem sb_shl0 (x : Int32) : x <<< ((0 : Int32) &&& 31) = x := by
  rw [show ((0 : Int32) &&& 31) = 0 by decide]
  simp
theorem sb_cl0 : (0 : Int32).toNatClampNeg = 0 := by decide
theorem sb_m1 {p : Nat} (h : 0 < p) : nI p + (-1) = nI (p - 1) := by
  obtain ⟨q, rfl⟩ : ∃ q, p = q + 1 := ⟨p - 1, by omega⟩
  exact pk_m1 q
def sb_b (c : Nat) : Int32 := (nI c).toInt8.toInt32
theorem sb_byte : ∀ c, c < 256 → sb_b c &&& 255 = nI c ∧ ((nI c).toUInt32 % 65536).toInt32 = nI c ∧ nI c ≤ 255 := by decide +kernel
def sb_Fit (a : Nat → Int32) : Prop := ∀ j, fits .byte (.int (a j)) = true
def sb_Lat (t : Nat → Nat) (n : Nat) (a : Nat → Int32) : Prop := ∀ j, j < n → t j < 256 ∧ a j = sb_b (t j)
theorem sb_fitB (c : Nat) : fits .byte (.int (sb_b c)) = true := pk_fb _
theorem sb_fit0 : sb_Fit (fun _ => 0) := fun _ => by
  show fits .byte (.int 0) = true
  decide
theorem sb_fitU {a : Nat → Int32} {k : Nat} {x : Int32} (h : sb_Fit a) (hx : fits .byte (.int x) = true) : sb_Fit (upd a k x) := by
  intro j
  by_cases e : j = k
  · subst e
    rw [pk_us]
    exact hx
  · rw [pk_un e]
    exact h j
def sb_cat (t : Nat → Nat) (n : Nat) (s : Nat → Nat) : Nat → Nat := fun j => if j < n then t j else s (j - n)
theorem sb_cat_lo {t s : Nat → Nat} {n j : Nat} (h : j < n) : sb_cat t n s j = t j := if_pos h
theorem sb_cat_hi {t s : Nat → Nat} {n j : Nat} : sb_cat t n s (n + j) = s j := by
  show (if n + j < n then t (n + j) else s (n + j - n)) = s j
  rw [if_neg (by omega), Nat.add_sub_cancel_left]
theorem sb_latPut {t s : Nat → Nat} {n w : Nat} {a a' : Nat → Int32} (h : sb_Lat t n a) (hk : ∀ j, j < n → a' j = a j) (hs : ∀ i, i < w → s i < 256 ∧ a' (n + i) = sb_b (s i)) : sb_Lat (sb_cat t n s) (n + w) a' := by
  intro j hj
  by_cases e : j < n
  · rw [sb_cat_lo e, hk j e]
    exact h j e
  · obtain ⟨i, rfl⟩ : ∃ i, j = n + i := ⟨j - n, by omega⟩
    rw [sb_cat_hi]
    exact hs i (by omega)
theorem sb_latKeep {t : Nat → Nat} {n : Nat} {a a' : Nat → Int32} (h : sb_Lat t n a) (hk : ∀ j, j < n → a' j = a j) : sb_Lat t n a' := fun j hj => by
  rw [hk j hj]
  exact h j hj
def sb_cap (q m : Nat) : Nat := if q ≤ m then m else if 2 * m + 2 < q then q else 2 * m + 2
def sb_Room (q m mc ms : Nat) : Prop := q ≤ m ∨ (1 ≤ mc ∧ sb_cap q m ≤ ms ∧ sb_cap q m ≤ 65536)
theorem sb_cap_ge (q m : Nat) : q ≤ sb_cap q m := by
  unfold sb_cap
  split
  · omega
  · split <;> omega
theorem sb_cap_gem (q m : Nat) : m ≤ sb_cap q m := by
  unfold sb_cap
  split
  · omega
  · split <;> omega
theorem sb_cap_le {q m mc ms : Nat} (hm : m ≤ 65536) (hr : sb_Room q m mc ms) : sb_cap q m ≤ 65536 := by
  rcases hr with h | h
  · rw [sb_cap, if_pos h]
    exact hm
  · exact h.2.2
theorem sb_at {P : Int32 → Prop} {x y : Int32} (e : x = y) (h : P y) : P x := e ▸ h
def sb_dg (w : Nat) : Nat := if w < 10 then 1 else if w < 100 then 2 else if w < 1000 then 3 else if w < 10000 then 4 else if w < 100000 then 5 else if w < 1000000 then 6 else if w < 10000000 then 7 else if w < 100000000 then 8 else if w < 1000000000 then 9 else 10
def sb_dec (v : Nat) : Nat → Nat := fun i => 48 + v / 10 ^ (sb_dg v - 1 - i) % 10
theorem sb_dg_in (w : Nat) : 1 ≤ sb_dg w ∧ sb_dg w ≤ 10 := by
  unfold sb_dg
  constructor <;> (repeat' split) <;> omega
theorem sb_dg100 {w : Nat} (h : 100 ≤ w) (hw : w < 2 ^ 31) : sb_dg w = sb_dg (w / 100) + 2 := by
  rw [sb_dg, sb_dg, if_neg (show ¬ w < 10 by omega), if_neg (show ¬ w < 100 by omega)]
  by_cases h3 : w < 1000
  · rw [if_pos h3, if_pos (show w / 100 < 10 by omega)]
  rw [if_neg h3, if_neg (show ¬ w / 100 < 10 by omega)]
  by_cases h4 : w < 10000
  · rw [if_pos h4, if_pos (show w / 100 < 100 by omega)]
  rw [if_neg h4, if_neg (show ¬ w / 100 < 100 by omega)]
  by_cases h5 : w < 100000
  · rw [if_pos h5, if_pos (show w / 100 < 1000 by omega)]
  rw [if_neg h5, if_neg (show ¬ w / 100 < 1000 by omega)]
  by_cases h6 : w < 1000000
  · rw [if_pos h6, if_pos (show w / 100 < 10000 by omega)]
  rw [if_neg h6, if_neg (show ¬ w / 100 < 10000 by omega)]
  by_cases h7 : w < 10000000
  · rw [if_pos h7, if_pos (show w / 100 < 100000 by omega)]
  rw [if_neg h7, if_neg (show ¬ w / 100 < 100000 by omega)]
  by_cases h8 : w < 100000000
  · rw [if_pos h8, if_pos (show w / 100 < 1000000 by omega)]
  rw [if_neg h8, if_neg (show ¬ w / 100 < 1000000 by omega)]
  by_cases h9 : w < 1000000000
  · rw [if_pos h9, if_pos (show w / 100 < 10000000 by omega)]
  rw [if_neg h9, if_neg (show ¬ w / 100 < 10000000 by omega)]
  rw [if_pos (show w / 100 < 100000000 by omega)]
theorem sb_negT {w : Nat} (h : w < 2 ^ 31) : (-nI w).toInt = -(w : Int) := by
  rw [Int32.toInt_neg, nI_toInt h]
  exact Int.bmod_eq_of_le (by omega) (by omega)
theorem sb_nle {a b : Nat} (ha : a < 2 ^ 31) (hb : b < 2 ^ 31) : -nI a ≤ -nI b ↔ b ≤ a := by
  rw [Int32.le_iff_toInt_le, sb_negT ha, sb_negT hb]
  omega
theorem sb_nlt {a b : Nat} (ha : a < 2 ^ 31) (hb : b < 2 ^ 31) : -nI a < -nI b ↔ b < a := by
  rw [Int32.lt_iff_toInt_lt, sb_negT ha, sb_negT hb]
  omega
theorem sb_cmp {A B : Prop} {x : Int32} (v c : Nat) (f : c ≤ v → A) (g : v < c → B) (hv : v < 2 ^ 31) (hx : x = -nI c := by rfl) (hc : c < 2 ^ 31 := by omega) : (-nI v ≤ x → A) ∧ (¬ -nI v ≤ x → B) := by
  subst hx
  rw [sb_nle hv hc]
  exact ⟨f, fun z => g (by omega)⟩
theorem sb_ndiv {w : Nat} (hw : w < 2 ^ 31) : (-nI w) / 100 = -nI (w / 100) := by
  apply Int32.toInt_inj.mp
  have h100 : (100 : Int32).toInt = 100 := by decide
  rw [Int32.toInt_div, sb_negT hw, h100, sb_negT (by omega), Int.neg_tdiv, Int.tdiv_eq_ediv_of_nonneg (by omega), Int.bmod_eq_of_le (by omega) (by omega)]
  omega
theorem sb_nrem {w : Nat} (hw : w < 2 ^ 31) : (-nI (w / 100)) * 100 - (-nI w) = nI (w % 100) := by
  have h := pk_rem (a := w) (d := 100) hw (by decide) (by decide)
  rw [pk_div hw (by decide) (by decide)] at h
  rw [← h]
  show (-nI (w / 100)) * nI 100 - (-nI w) = nI w - nI (w / 100) * nI 100
  rw [Int32.neg_mul, Int32.sub_neg, Int32.add_comm, ← Int32.sub_eq_add_neg]
end
section
/-! the pure picture: ways of a step, what is still to come behind noted choices -/
section
theorem mp_fmc {α β : Type} {l : List α} {f g : α → List β} (h : ∀ x, x ∈ l → f x = g x) : l.flatMap f = l.flatMap g := by
  induction l with
  | nil => rfl
  | cons a l ih =>
    rw [List.flatMap_cons, List.flatMap_cons, h a List.mem_cons_self, ih (fun x hx => h x (List.mem_cons_of_mem _ hx))]
def mp_seq (f g : Nat → List (List Nat × Nat)) (s : Nat) : List (List Nat × Nat) :=
  (f s).flatMap (fun w => (g w.2).map (fun x => (w.1 ++ x.1, x.2)))
theorem mp_seq_assoc (f g h : Nat → List (List Nat × Nat)) (s : Nat) : mp_seq (mp_seq f g) h s = mp_seq f (mp_seq g h) s := by
  simp only [mp_seq, List.flatMap_assoc, List.map_flatMap, List.flatMap_map, List.map_map, Function.comp_def, List.append_assoc]
def mp_un (s : Nat) : List (List Nat × Nat) := [([], s)]
theorem mp_seq_un1 (g : Nat → List (List Nat × Nat)) (s : Nat) : mp_seq mp_un g s = g s := by
  simp only [mp_seq, mp_un, List.flatMap_cons, List.flatMap_nil, List.append_nil, List.nil_append]
  exact List.map_id _
theorem mp_seq_un2 (f : Nat → List (List Nat × Nat)) (s : Nat) : mp_seq f mp_un s = f s := by
  simp only [mp_seq, mp_un, List.map_cons, List.map_nil, List.append_nil]
  exact List.flatMap_singleton' _
theorem mp_seq_flat {α : Type} (l : List α) (f : α → Nat → List (List Nat × Nat)) (g : Nat → List (List Nat × Nat)) (s : Nat) :
    mp_seq (fun s => l.flatMap (fun x => f x s)) g s = l.flatMap (fun x => mp_seq (f x) g s) := by
  simp only [mp_seq, List.flatMap_assoc]
def mp_act (hc : Nat → Nat → Bool) (ch : Nat → Nat → Nat) (v s : Nat) : List (List Nat × Nat) :=
  if v = 0 then [([], s)] else if hc (v - 1) s = true then [([v - 1], ch (v - 1) s)] else []
def mp_D (hc : Nat → Nat → Bool) (ch : Nat → Nat → Nat) (ok : Nat → Nat → Nat → Bool) (s1 s2 : Nat → Nat) : Nat → Nat → Nat → List (List Nat × Nat)
  | 0, v, s => if 8 ≤ v then [] else mp_act hc ch v s
  | k + 1, v, s => if 8 ≤ v then (List.range 8).flatMap (fun m => if ok (v - 8) m s = true then mp_seq (mp_D hc ch ok s1 s2 k (s1 m)) (mp_D hc ch ok s1 s2 k (s2 m)) s else []) else mp_act hc ch v s
def mp_E (hc : Nat → Nat → Bool) (ch : Nat → Nat → Nat) (ok : Nat → Nat → Nat → Bool) (s1 s2 : Nat → Nat) (v s : Nat) : List (List Nat × Nat) := mp_D hc ch ok s1 s2 4 v s
def mp_sk (t v : Nat) : Prop := v ≤ 6 ∨ (8 + t < v ∧ v ≤ 11)
def mp_wf (ok : Nat → Nat → Nat → Bool) (s1 s2 : Nat → Nat) : Prop := ∀ t m s, t < 4 → m < 8 → ok t m s = true → mp_sk t (s1 m) ∧ mp_sk t (s2 m)
variable {hc : Nat → Nat → Bool} {ch : Nat → Nat → Nat} {ok : Nat → Nat → Nat → Bool} {s1 s2 : Nat → Nat}
theorem mp_up (wf : mp_wf ok s1 s2) : ∀ k v s, v ≤ 11 → (v < 8 ∨ 12 ≤ v + k) → mp_D hc ch ok s1 s2 (k + 1) v s = mp_D hc ch ok s1 s2 k v s := by
  intro k
  induction k with
  | zero =>
    intro v s h1 h2
    have h : ¬ 8 ≤ v := by omega
    rw [mp_D, mp_D, if_neg h, if_neg h]
  | succ k ih =>
    intro v s h1 h2
    by_cases h : 8 ≤ v
    · rw [mp_D, mp_D, if_pos h, if_pos h]
      refine mp_fmc (fun m hm => ?_)
      by_cases o : ok (v - 8) m s = true
      · have w := wf (v - 8) m s (by omega) (List.mem_range.mp hm) o
        have e1 : mp_D hc ch ok s1 s2 (k + 1) (s1 m) = mp_D hc ch ok s1 s2 k (s1 m) := funext (fun x => ih (s1 m) x (by have := w.1; unfold mp_sk at this; omega) (by have := w.1; unfold mp_sk at this; omega))
        have e2 : mp_D hc ch ok s1 s2 (k + 1) (s2 m) = mp_D hc ch ok s1 s2 k (s2 m) := funext (fun x => ih (s2 m) x (by have := w.2; unfold mp_sk at this; omega) (by have := w.2; unfold mp_sk at this; omega))
        rw [if_pos o, if_pos o, e1, e2]
      · rw [if_neg o, if_neg o]
    · rw [mp_D, mp_D, if_neg h, if_neg h]
theorem mp_fix (wf : mp_wf ok s1 s2) {t : Nat} (ht : t < 4) (s : Nat) : mp_E hc ch ok s1 s2 (8 + t) s = (List.range 8).flatMap (fun m => if ok t m s = true then mp_seq (mp_E hc ch ok s1 s2 (s1 m)) (mp_E hc ch ok s1 s2 (s2 m)) s else []) := by
  have h : 8 ≤ 8 + t := by omega
  have h8 : 8 + t - 8 = t := by omega
  show mp_D hc ch ok s1 s2 (3 + 1) (8 + t) s = _
  rw [mp_D, if_pos h, h8]
  refine mp_fmc (fun m hm => ?_)
  by_cases o : ok t m s = true
  · have w := wf t m s ht (List.mem_range.mp hm) o
    have e1 : mp_E hc ch ok s1 s2 (s1 m) = mp_D hc ch ok s1 s2 3 (s1 m) := funext (fun x => mp_up wf 3 (s1 m) x (by have := w.1; unfold mp_sk at this; omega) (by have := w.1; unfold mp_sk at this; omega))
    have e2 : mp_E hc ch ok s1 s2 (s2 m) = mp_D hc ch ok s1 s2 3 (s2 m) := funext (fun x => mp_up wf 3 (s2 m) x (by have := w.2; unfold mp_sk at this; omega) (by have := w.2; unfold mp_sk at this; omega))
    rw [if_pos o, if_pos o, e1, e2]
  · rw [if_neg o, if_neg o]
theorem mp_fix0 {v : Nat} (h : v < 8) (s : Nat) : mp_E hc ch ok s1 s2 v s = mp_act hc ch v s := by
  have h8 : ¬ 8 ≤ v := by omega
  show mp_D hc ch ok s1 s2 (3 + 1) v s = _
  rw [mp_D, if_neg h8]
theorem mp_E0 : mp_E hc ch ok s1 s2 0 = mp_un := funext (fun s => (mp_fix0 (by decide) s).trans rfl)
def mp_run (hc : Nat → Nat → Bool) (ch : Nat → Nat → Nat) (ok : Nat → Nat → Nat → Bool) (s1 s2 : Nat → Nat) : List Nat → Nat → List (List Nat × Nat)
  | [], s => [([], s)]
  | v :: A, s => mp_seq (mp_E hc ch ok s1 s2 v) (mp_run hc ch ok s1 s2 A) s
def mp_one (v : Nat) : List Nat := if v = 0 then [] else [v]
def mp_exp (s1 s2 : Nat → Nat) (m : Nat) : List Nat := mp_one (s1 m) ++ mp_one (s2 m)
theorem mp_run_one (v : Nat) (A : List Nat) (s : Nat) : mp_run hc ch ok s1 s2 (mp_one v ++ A) s = mp_seq (mp_E hc ch ok s1 s2 v) (mp_run hc ch ok s1 s2 A) s := by
  unfold mp_one
  by_cases h : v = 0
  · rw [if_pos h, h, mp_E0, mp_seq_un1]; rfl
  · rw [if_neg h]; rfl
theorem mp_run_exp (m : Nat) (A : List Nat) (s : Nat) : mp_run hc ch ok s1 s2 (mp_exp s1 s2 m ++ A) s = mp_seq (mp_seq (mp_E hc ch ok s1 s2 (s1 m)) (mp_E hc ch ok s1 s2 (s2 m))) (mp_run hc ch ok s1 s2 A) s := by
  have e : mp_run hc ch ok s1 s2 (mp_one (s2 m) ++ A) = mp_seq (mp_E hc ch ok s1 s2 (s2 m)) (mp_run hc ch ok s1 s2 A) := funext (fun x => mp_run_one _ _ x)
  rw [mp_exp, List.append_assoc, mp_run_one, e, mp_seq_assoc]
theorem mp_run_1 (v s : Nat) : mp_run hc ch ok s1 s2 [v] s = mp_E hc ch ok s1 s2 v s := by
  have e : mp_run hc ch ok s1 s2 [] = mp_un := funext (fun _ => rfl)
  show mp_seq _ (mp_run hc ch ok s1 s2 []) s = _
  rw [e, mp_seq_un2]
end
section
def mp_ff (p : Nat → Bool) : Nat → Nat → Option Nat
  | 0, _ => none
  | d + 1, c => if p c = true then some c else mp_ff p d (c + 1)
def mp_rs {α : Type} (g : Nat → List (Option α)) (p : Nat → Bool) : Nat → Nat → List (Option α)
  | 0, _ => [none]
  | d + 1, c => if p c = true then g c ++ mp_rs g p d (c + 1) else mp_rs g p d (c + 1)
theorem mp_ff_some {p : Nat → Bool} {m : Nat} : ∀ d c, mp_ff p d c = some m → p m = true ∧ c ≤ m ∧ m < c + d := by
  intro d
  induction d with
  | zero => intro c h; exact nomatch h
  | succ d ih =>
    intro c h
    rw [mp_ff] at h
    by_cases o : p c = true
    · rw [if_pos o] at h
      cases h
      exact ⟨o, Nat.le_refl _, by omega⟩
    · rw [if_neg o] at h
      obtain ⟨a, b, e⟩ := ih (c + 1) h
      exact ⟨a, by omega, by omega⟩
theorem mp_ff_at {p : Nat → Bool} {m d : Nat} (h : p m = true) : mp_ff p (d + 1) m = some m := by
  rw [mp_ff, if_pos h]
theorem mp_rs_none {α : Type} {g : Nat → List (Option α)} {p : Nat → Bool} : ∀ d c, mp_ff p d c = none → mp_rs g p d c = [none] := by
  intro d
  induction d with
  | zero => intro c _; rfl
  | succ d ih =>
    intro c h
    rw [mp_ff] at h
    by_cases o : p c = true
    · rw [if_pos o] at h; exact nomatch h
    · rw [if_neg o] at h
      rw [mp_rs, if_neg o, ih _ h]
theorem mp_rs_some {α : Type} {g : Nat → List (Option α)} {p : Nat → Bool} {m : Nat} : ∀ d c, c + d = 8 → mp_ff p d c = some m → mp_rs g p d c = g m ++ mp_rs g p (8 - (m + 1)) (m + 1) := by
  intro d
  induction d with
  | zero => intro c _ h; exact nomatch h
  | succ d ih =>
    intro c hd h
    rw [mp_ff] at h
    by_cases o : p c = true
    · rw [if_pos o] at h
      have e : c = m := Option.some.inj h
      rw [mp_rs, if_pos o, ← e, show 8 - (c + 1) = d from by omega]
    · rw [if_neg o] at h
      rw [mp_rs, if_neg o, ih _ (by omega) h]
theorem mp_rs_fm {α : Type} {g : Nat → List (Option α)} {p : Nat → Bool} : ∀ d c, (mp_rs g p d c).filterMap id = (List.range' c d).flatMap (fun m => if p m = true then (g m).filterMap id else []) := by
  intro d
  induction d with
  | zero => intro c; rfl
  | succ d ih =>
    intro c
    rw [mp_rs, List.range'_succ, List.flatMap_cons]
    by_cases o : p c = true
    · rw [if_pos o, if_pos o, List.filterMap_append, ih]
    · rw [if_neg o, if_neg o, ih, List.nil_append]
def mp_lv (hc : Nat → Nat → Bool) (ch : Nat → Nat → Nat) (ok : Nat → Nat → Nat → Bool) (s1 s2 : Nat → Nat) : Nat → List Nat → Nat → List Nat → List (Option (List Nat × Nat))
  | 0, _, _, _ => [none]
  | _ + 1, [], s, _ => [some ([], s)]
  | n + 1, v :: A, s, pre => if 8 ≤ v then
      (match mp_ff (fun m => ok (v - 8) m s) (8 - pre.headD 0) (pre.headD 0) with
        | none => [none]
        | some m => mp_lv hc ch ok s1 s2 n (mp_exp s1 s2 m ++ A) s pre.tail ++ mp_rs (fun k => mp_lv hc ch ok s1 s2 n (mp_exp s1 s2 k ++ A) s []) (fun k => ok (v - 8) k s) (8 - (m + 1)) (m + 1))
    else if hc (v - 1) s = true then (mp_lv hc ch ok s1 s2 n A (ch (v - 1) s) pre).map (Option.map (fun w => ((v - 1) :: w.1, w.2))) else [none]
def mp_co (hc : Nat → Nat → Bool) (ch : Nat → Nat → Nat) (ok : Nat → Nat → Nat → Bool) (s1 s2 : Nat → Nat) : Nat → List Nat → Nat → List Nat → Option (List Nat × Nat) × List Nat
  | 0, _, _, _ => (none, [])
  | _ + 1, [], s, _ => (some ([], s), [])
  | n + 1, v :: A, s, pre => if 8 ≤ v then
      (match mp_ff (fun m => ok (v - 8) m s) (8 - pre.headD 0) (pre.headD 0) with
        | none => (none, [])
        | some m => ((mp_co hc ch ok s1 s2 n (mp_exp s1 s2 m ++ A) s pre.tail).1, m :: (mp_co hc ch ok s1 s2 n (mp_exp s1 s2 m ++ A) s pre.tail).2))
    else if hc (v - 1) s = true then ((mp_co hc ch ok s1 s2 n A (ch (v - 1) s) pre).1.map (fun w => ((v - 1) :: w.1, w.2)), (mp_co hc ch ok s1 s2 n A (ch (v - 1) s) pre).2) else (none, [])
def mp_inc : List Nat → List Nat
  | [] => []
  | [c] => [c + 1]
  | c :: d :: l => c :: mp_inc (d :: l)
variable {hc : Nat → Nat → Bool} {ch : Nat → Nat → Nat} {ok : Nat → Nat → Nat → Bool} {s1 s2 : Nat → Nat}
theorem mp_lv_n {n v s : Nat} {A pre : List Nat} (h : 8 ≤ v) (e : mp_ff (fun m => ok (v - 8) m s) (8 - pre.headD 0) (pre.headD 0) = none) : mp_lv hc ch ok s1 s2 (n + 1) (v :: A) s pre = [none] := by
  rw [mp_lv, if_pos h, e]
theorem mp_lv_s {n v s m : Nat} {A pre : List Nat} (h : 8 ≤ v) (e : mp_ff (fun m => ok (v - 8) m s) (8 - pre.headD 0) (pre.headD 0) = some m) : mp_lv hc ch ok s1 s2 (n + 1) (v :: A) s pre = mp_lv hc ch ok s1 s2 n (mp_exp s1 s2 m ++ A) s pre.tail ++ mp_rs (fun k => mp_lv hc ch ok s1 s2 n (mp_exp s1 s2 k ++ A) s []) (fun k => ok (v - 8) k s) (8 - (m + 1)) (m + 1) := by
  rw [mp_lv, if_pos h, e]
theorem mp_lv_a {n v s : Nat} {A pre : List Nat} (h : ¬ 8 ≤ v) (o : hc (v - 1) s = true) : mp_lv hc ch ok s1 s2 (n + 1) (v :: A) s pre = (mp_lv hc ch ok s1 s2 n A (ch (v - 1) s) pre).map (Option.map (fun w => ((v - 1) :: w.1, w.2))) := by
  rw [mp_lv, if_neg h, if_pos o]
theorem mp_lv_b {n v s : Nat} {A pre : List Nat} (h : ¬ 8 ≤ v) (o : ¬ hc (v - 1) s = true) : mp_lv hc ch ok s1 s2 (n + 1) (v :: A) s pre = [none] := by
  rw [mp_lv, if_neg h, if_neg o]
theorem mp_co_n {n v s : Nat} {A pre : List Nat} (h : 8 ≤ v) (e : mp_ff (fun m => ok (v - 8) m s) (8 - pre.headD 0) (pre.headD 0) = none) : mp_co hc ch ok s1 s2 (n + 1) (v :: A) s pre = (none, []) := by
  rw [mp_co, if_pos h, e]
theorem mp_co_s {n v s m : Nat} {A pre : List Nat} (h : 8 ≤ v) (e : mp_ff (fun m => ok (v - 8) m s) (8 - pre.headD 0) (pre.headD 0) = some m) : mp_co hc ch ok s1 s2 (n + 1) (v :: A) s pre = ((mp_co hc ch ok s1 s2 n (mp_exp s1 s2 m ++ A) s pre.tail).1, m :: (mp_co hc ch ok s1 s2 n (mp_exp s1 s2 m ++ A) s pre.tail).2) := by
  rw [mp_co, if_pos h, e]
theorem mp_co_a {n v s : Nat} {A pre : List Nat} (h : ¬ 8 ≤ v) (o : hc (v - 1) s = true) : mp_co hc ch ok s1 s2 (n + 1) (v :: A) s pre = ((mp_co hc ch ok s1 s2 n A (ch (v - 1) s) pre).1.map (fun w => ((v - 1) :: w.1, w.2)), (mp_co hc ch ok s1 s2 n A (ch (v - 1) s) pre).2) := by
  rw [mp_co, if_neg h, if_pos o]
theorem mp_co_b {n v s : Nat} {A pre : List Nat} (h : ¬ 8 ≤ v) (o : ¬ hc (v - 1) s = true) : mp_co hc ch ok s1 s2 (n + 1) (v :: A) s pre = (none, []) := by
  rw [mp_co, if_neg h, if_neg o]
/-- what comes from a task on where the noted choice is c, and nothing behind it -/
theorem mp_lv_rs {n v s c : Nat} {A pre : List Nat} (h : 8 ≤ v) (hp : pre.headD 0 = c) (ht : pre.tail = []) (hc8 : c ≤ 8) :
    mp_lv hc ch ok s1 s2 (n + 1) (v :: A) s pre = mp_rs (fun k => mp_lv hc ch ok s1 s2 n (mp_exp s1 s2 k ++ A) s []) (fun k => ok (v - 8) k s) (8 - c) c := by
  cases e : mp_ff (fun m => ok (v - 8) m s) (8 - pre.headD 0) (pre.headD 0) with
  | none =>
    rw [mp_lv_n h e]
    rw [hp] at e
    rw [mp_rs_none _ _ e]
  | some m =>
    rw [mp_lv_s h e, ht]
    rw [hp] at e
    rw [mp_rs_some _ _ (by omega) e]
theorem mp_main : ∀ n A s pre, mp_lv hc ch ok s1 s2 n A s pre = (mp_co hc ch ok s1 s2 n A s pre).1 :: (if (mp_co hc ch ok s1 s2 n A s pre).2 = [] then [] else mp_lv hc ch ok s1 s2 n A s (mp_inc (mp_co hc ch ok s1 s2 n A s pre).2)) := by
  intro n
  induction n with
  | zero => intro A s pre; rfl
  | succ n ih =>
    intro A s pre
    cases A with
    | nil => rfl
    | cons v A =>
      by_cases h : 8 ≤ v
      · cases e : mp_ff (fun m => ok (v - 8) m s) (8 - pre.headD 0) (pre.headD 0) with
        | none => rw [mp_lv_n h e, mp_co_n h e]; rfl
        | some m =>
          obtain ⟨o, _, hm⟩ := mp_ff_some _ _ e
          have hm8 : m < 8 := by
            obtain ⟨_, b, d⟩ := mp_ff_some _ _ e
            omega
          rw [mp_lv_s h e, mp_co_s h e, ih]
          rw [if_neg (show ¬ (m :: (mp_co hc ch ok s1 s2 n (mp_exp s1 s2 m ++ A) s pre.tail).2) = [] from fun z => nomatch z), List.cons_append]
          congr 1
          cases q : (mp_co hc ch ok s1 s2 n (mp_exp s1 s2 m ++ A) s pre.tail).2 with
          | nil =>
            rw [if_pos rfl, List.nil_append]
            exact (mp_lv_rs (pre := [m + 1]) (c := m + 1) h rfl rfl (by omega)).symm
          | cons c l =>
            rw [if_neg (fun z => nomatch z)]
            have e2 : mp_ff (fun k => ok (v - 8) k s) (8 - (mp_inc (m :: c :: l)).headD 0) ((mp_inc (m :: c :: l)).headD 0) = some m := by
              show mp_ff _ (8 - m) m = some m
              rw [show 8 - m = (7 - m) + 1 from by omega]
              exact mp_ff_at o
            rw [mp_lv_s h e2]
            rfl
      · by_cases o : hc (v - 1) s = true
        · rw [mp_lv_a h o, mp_co_a h o, ih, List.map_cons]
          congr 1
          cases q : (mp_co hc ch ok s1 s2 n A (ch (v - 1) s) pre).2 with
          | nil => rw [if_pos rfl, if_pos rfl]; rfl
          | cons c l => rw [if_neg (fun z => nomatch z), if_neg (fun z => nomatch z), mp_lv_a h o]
        · rw [mp_lv_b h o, mp_co_b h o]; rfl
end
end
section
/-! weights, the ways as the list to come, properties of each way -/
section
def mp_tc (v : Nat) : Nat := if v < 8 then 0 else 2 ^ (12 - v) - 1
def mp_pc (v : Nat) : Nat := if v < 8 then 1 else 2 ^ (12 - v)
def mp_av (v : Nat) : Prop := (1 ≤ v ∧ v ≤ 6) ∨ (8 ≤ v ∧ v ≤ 11)
def mp_sm (f : Nat → Nat) : List Nat → Nat
  | [] => 0
  | v :: A => f v + mp_sm f A
theorem mp_sm_app (f : Nat → Nat) (A B : List Nat) : mp_sm f (A ++ B) = mp_sm f A + mp_sm f B := by
  induction A with
  | nil => exact (Nat.zero_add _).symm
  | cons v A ih =>
    show f v + mp_sm f (A ++ B) = f v + mp_sm f A + mp_sm f B
    rw [ih]; omega
theorem mp_wtl : ∀ t, t < 4 → ∀ v, v < 12 → (v ≤ 6 ∨ 8 + t < v) → 2 * mp_tc v + 1 ≤ mp_tc (8 + t) ∧ 2 * mp_pc v ≤ mp_pc (8 + t) := by decide
theorem mp_pc1 : ∀ v, v < 12 → 1 ≤ mp_pc v ∧ mp_pc v ≤ 16 ∧ mp_tc v ≤ 15 := by decide
theorem mp_sm_one (f : Nat → Nat) (v : Nat) : mp_sm f (mp_one v) ≤ f v := by
  unfold mp_one
  by_cases h : v = 0
  · rw [if_pos h]; exact Nat.zero_le _
  · rw [if_neg h]; exact Nat.le_refl _
variable {hc : Nat → Nat → Bool} {ch : Nat → Nat → Nat} {ok : Nat → Nat → Nat → Bool} {s1 s2 : Nat → Nat}
theorem mp_exp_w {t m : Nat} (ht : t < 4) (h1 : mp_sk t (s1 m)) (h2 : mp_sk t (s2 m)) : mp_sm mp_tc (mp_exp s1 s2 m) + 1 ≤ mp_tc (8 + t) ∧ mp_sm mp_pc (mp_exp s1 s2 m) ≤ mp_pc (8 + t) := by
  unfold mp_sk at h1 h2
  have a := mp_wtl t ht (s1 m) (by omega) (by omega)
  have b := mp_wtl t ht (s2 m) (by omega) (by omega)
  have c1 := mp_sm_one mp_tc (s1 m)
  have c2 := mp_sm_one mp_tc (s2 m)
  have d1 := mp_sm_one mp_pc (s1 m)
  have d2 := mp_sm_one mp_pc (s2 m)
  unfold mp_exp
  rw [mp_sm_app, mp_sm_app]
  omega
theorem mp_one_av {t v x : Nat} (h : mp_sk t v) (hx : x ∈ mp_one v) : mp_av x := by
  unfold mp_one at hx
  by_cases z : v = 0
  · rw [if_pos z] at hx; exact nomatch hx
  · rw [if_neg z] at hx
    have e : x = v := List.mem_singleton.mp hx
    unfold mp_sk at h
    unfold mp_av
    omega
theorem mp_exp_av {t m : Nat} (h1 : mp_sk t (s1 m)) (h2 : mp_sk t (s2 m)) {A : List Nat} (hA : ∀ v, v ∈ A → mp_av v) : ∀ v, v ∈ mp_exp s1 s2 m ++ A → mp_av v := by
  intro v hv
  rcases List.mem_append.mp hv with h | h
  · rcases List.mem_append.mp h with h | h
    · exact mp_one_av h1 h
    · exact mp_one_av h2 h
  · exact hA v h
def mp_wt (A : List Nat) : Nat := mp_sm mp_tc A + mp_sm mp_pc A
theorem mp_wt_cons (v : Nat) (A : List Nat) : mp_wt (v :: A) = mp_tc v + mp_pc v + mp_wt A := by
  show (mp_tc v + mp_sm mp_tc A) + (mp_pc v + mp_sm mp_pc A) = _
  unfold mp_wt; omega
theorem mp_wt_exp {t m : Nat} (ht : t < 4) (h1 : mp_sk t (s1 m)) (h2 : mp_sk t (s2 m)) (A : List Nat) : mp_wt (mp_exp s1 s2 m ++ A) + 1 ≤ mp_wt ((8 + t) :: A) := by
  have := mp_exp_w (s1 := s1) (s2 := s2) ht h1 h2
  rw [mp_wt_cons]
  unfold mp_wt
  rw [mp_sm_app, mp_sm_app]
  omega
theorem mp_fm_map (v : Nat) (l : List (Option (List Nat × Nat))) : (l.map (Option.map (fun w => (v :: w.1, w.2)))).filterMap id = (l.filterMap id).map (fun w => (v :: w.1, w.2)) := by
  induction l with
  | nil => rfl
  | cons a l ih =>
    cases a with
    | none => exact ih
    | some w => exact congrArg (List.cons (v :: w.1, w.2)) ih
theorem mp_fw (wf : mp_wf ok s1 s2) : ∀ n A s, (∀ v, v ∈ A → mp_av v) → mp_wt A < n → (mp_lv hc ch ok s1 s2 n A s []).filterMap id = mp_run hc ch ok s1 s2 A s := by
  intro n
  induction n with
  | zero => intro A s _ h; exact absurd h (Nat.not_lt_zero _)
  | succ n ih =>
    intro A s hA hn
    cases A with
    | nil => rfl
    | cons v A =>
      have av := hA v List.mem_cons_self
      have hA' : ∀ x, x ∈ A → mp_av x := fun x hx => hA x (List.mem_cons_of_mem _ hx)
      have p1 := (mp_pc1 v (by unfold mp_av at av; omega)).1
      by_cases h : 8 ≤ v
      · obtain ⟨t, rfl⟩ : ∃ t, v = 8 + t := ⟨v - 8, by omega⟩
        have ht : t < 4 := by unfold mp_av at av; omega
        have h8 : 8 + t - 8 = t := by omega
        rw [mp_lv_rs (pre := []) h rfl rfl (Nat.zero_le _), mp_rs_fm, h8]
        show _ = mp_seq (mp_E hc ch ok s1 s2 (8 + t)) (mp_run hc ch ok s1 s2 A) s
        rw [show mp_E hc ch ok s1 s2 (8 + t) = (fun s => (List.range 8).flatMap (fun m => (fun m s => if ok t m s = true then mp_seq (mp_E hc ch ok s1 s2 (s1 m)) (mp_E hc ch ok s1 s2 (s2 m)) s else []) m s)) from funext (fun s => mp_fix wf ht s)]
        rw [mp_seq_flat, List.range_eq_range']
        refine mp_fmc (fun m hm => ?_)
        have hm8 : m < 8 := by
          have := List.mem_range'_1.mp hm
          omega
        by_cases o : ok t m s = true
        · obtain ⟨w1, w2⟩ := wf t m s ht hm8 o
          have hw := mp_wt_exp (s1 := s1) (s2 := s2) ht w1 w2 A
          rw [if_pos o, ih _ _ (mp_exp_av w1 w2 hA') (by omega), mp_run_exp]
          unfold mp_seq
          dsimp only
          rw [if_pos o]
        · rw [if_neg o]
          unfold mp_seq
          dsimp only
          rw [if_neg o]
          rfl
      · have hw := mp_wt_cons v A
        show _ = mp_seq (mp_E hc ch ok s1 s2 v) (mp_run hc ch ok s1 s2 A) s
        have v0 : ¬ v = 0 := by unfold mp_av at av; omega
        unfold mp_seq
        rw [mp_fix0 (by omega), mp_act, if_neg v0]
        by_cases o : hc (v - 1) s = true
        · rw [mp_lv_a h o, mp_fm_map, ih _ _ hA' (by omega), if_pos o]
          show _ = List.map _ _ ++ []
          rw [List.append_nil]
          rfl
        · rw [mp_lv_b h o, if_neg o]; rfl
theorem mp_fw1 (wf : mp_wf ok s1 s2) {t : Nat} (ht : t < 4) (s : Nat) : (mp_lv hc ch ok s1 s2 32 [8 + t] s []).filterMap id = mp_E hc ch ok s1 s2 (8 + t) s := by
  have hw : mp_wt [8 + t] < 32 := by
    have : ∀ t, t < 4 → mp_wt [8 + t] < 32 := by decide
    exact this t ht
  rw [mp_fw wf 32 [8 + t] s (fun v hv => by have e := List.mem_singleton.mp hv; unfold mp_av; omega) hw, mp_run_1]
/-- choices that a run makes -/
theorem mp_co_len (wf : mp_wf ok s1 s2) : ∀ n A s pre, (∀ v, v ∈ A → mp_av v) → (mp_co hc ch ok s1 s2 n A s pre).2.length ≤ mp_sm mp_tc A ∧ ∀ c, c ∈ (mp_co hc ch ok s1 s2 n A s pre).2 → c < 8 := by
  intro n
  induction n with
  | zero => intro A s pre _; exact ⟨Nat.zero_le _, fun c hc => nomatch hc⟩
  | succ n ih =>
    intro A s pre hA
    cases A with
    | nil => exact ⟨Nat.zero_le _, fun c hc => nomatch hc⟩
    | cons v A =>
      have av := hA v List.mem_cons_self
      have hA' : ∀ x, x ∈ A → mp_av x := fun x hx => hA x (List.mem_cons_of_mem _ hx)
      by_cases h : 8 ≤ v
      · obtain ⟨t, rfl⟩ : ∃ t, v = 8 + t := ⟨v - 8, by omega⟩
        have ht : t < 4 := by unfold mp_av at av; omega
        have h8 : 8 + t - 8 = t := by omega
        cases e : mp_ff (fun m => ok (8 + t - 8) m s) (8 - pre.headD 0) (pre.headD 0) with
        | none => rw [mp_co_n h e]; exact ⟨Nat.zero_le _, fun c hc => nomatch hc⟩
        | some m =>
          obtain ⟨o, a, b⟩ := mp_ff_some _ _ e
          rw [h8] at o
          have hm : m < 8 := by omega
          obtain ⟨w1, w2⟩ := wf t m s ht hm o
          obtain ⟨i1, i2⟩ := ih (mp_exp s1 s2 m ++ A) s pre.tail (mp_exp_av w1 w2 hA')
          have hw := (mp_exp_w (s1 := s1) (s2 := s2) ht w1 w2).1
          rw [mp_sm_app] at i1
          rw [mp_co_s h e]
          refine ⟨?_, fun c hcm => ?_⟩
          · show _ + 1 ≤ mp_tc (8 + t) + mp_sm mp_tc A
            omega
          · rcases List.mem_cons.mp hcm with q | q
            · omega
            · exact i2 c q
      · by_cases o : hc (v - 1) s = true
        · rw [mp_co_a h o]
          obtain ⟨i1, i2⟩ := ih A (ch (v - 1) s) pre hA'
          exact ⟨Nat.le_trans i1 (Nat.le_add_left _ _), i2⟩
        · rw [mp_co_b h o]; exact ⟨Nat.zero_le _, fun c hc => nomatch hc⟩
theorem mp_co_root {n v s : Nat} {A pre : List Nat} (h : 8 ≤ v) (z : (mp_co hc ch ok s1 s2 (n + 1) (v :: A) s pre).2 = []) : (mp_co hc ch ok s1 s2 (n + 1) (v :: A) s pre).1 = none := by
  cases e : mp_ff (fun m => ok (v - 8) m s) (8 - pre.headD 0) (pre.headD 0) with
  | none => rw [mp_co_n h e]
  | some m => rw [mp_co_s h e] at z; exact nomatch z
/-- carrying out a list of actions -/
def mp_ex (hc : Nat → Nat → Bool) (ch : Nat → Nat → Nat) : List Nat → Nat → Option Nat
  | [], s => some s
  | a :: p, s => if hc a s = true then mp_ex hc ch p (ch a s) else none
theorem mp_ex_app {p q : List Nat} : ∀ {s e f : Nat}, mp_ex hc ch p s = some e → mp_ex hc ch q e = some f → mp_ex hc ch (p ++ q) s = some f := by
  induction p with
  | nil => intro s e f h1 h2; cases h1; exact h2
  | cons a p ih =>
    intro s e f h1 h2
    rw [mp_ex] at h1
    by_cases o : hc a s = true
    · rw [if_pos o] at h1
      rw [List.cons_append, mp_ex, if_pos o]
      exact ih h1 h2
    · rw [if_neg o] at h1; exact nomatch h1
def mp_good (hc : Nat → Nat → Bool) (ch : Nat → Nat → Nat) (s B : Nat) (w : List Nat × Nat) : Prop := w.2 < 32 ∧ w.1.length ≤ B ∧ (∀ d, d ∈ w.1 → d < 6) ∧ mp_ex hc ch w.1 s = some w.2
theorem mp_D_ok (wf : mp_wf ok s1 s2) (hch : ∀ a s, s < 32 → ch a s < 32) : ∀ k v s, v < 12 → v ≠ 7 → s < 32 → ∀ w, w ∈ mp_D hc ch ok s1 s2 k v s → mp_good hc ch s (mp_pc v) w := by
  have act : ∀ v s, v < 8 → v ≠ 7 → s < 32 → ∀ w, w ∈ mp_act hc ch v s → mp_good hc ch s (mp_pc v) w := by
    intro v s h8 h7 hs w hw
    have p1 := (mp_pc1 v (by omega)).1
    unfold mp_act at hw
    by_cases z : v = 0
    · rw [if_pos z] at hw
      have e := List.mem_singleton.mp hw
      subst e
      exact ⟨hs, Nat.zero_le _, (fun d hd => nomatch hd), rfl⟩
    · rw [if_neg z] at hw
      by_cases o : hc (v - 1) s = true
      · rw [if_pos o] at hw
        have e := List.mem_singleton.mp hw
        subst e
        refine ⟨hch _ _ hs, p1, fun d hd => ?_, ?_⟩
        · have := List.mem_singleton.mp hd
          omega
        · show (if hc (v - 1) s = true then mp_ex hc ch [] (ch (v - 1) s) else none) = _
          rw [if_pos o]; rfl
      · rw [if_neg o] at hw; exact nomatch hw
  intro k
  induction k with
  | zero =>
    intro v s hv h7 hs w hw
    by_cases h : 8 ≤ v
    · rw [mp_D, if_pos h] at hw; exact nomatch hw
    · rw [mp_D, if_neg h] at hw
      exact act v s (by omega) h7 hs w hw
  | succ k ih =>
    intro v s hv h7 hs w hw
    by_cases h : 8 ≤ v
    · rw [mp_D, if_pos h] at hw
      obtain ⟨t, rfl⟩ : ∃ t, v = 8 + t := ⟨v - 8, by omega⟩
      have ht : t < 4 := by omega
      have h8 : 8 + t - 8 = t := by omega
      rw [h8] at hw
      obtain ⟨m, hm, hw⟩ := List.mem_flatMap.mp hw
      have hm8 := List.mem_range.mp hm
      by_cases o : ok t m s = true
      · rw [if_pos o] at hw
        obtain ⟨w1, w2⟩ := wf t m s ht hm8 o
        obtain ⟨x, hx, hw⟩ := List.mem_flatMap.mp hw
        obtain ⟨y, hy, rfl⟩ := List.mem_map.mp hw
        unfold mp_sk at w1 w2
        have a := mp_wtl t ht (s1 m) (by omega) (by omega)
        have b := mp_wtl t ht (s2 m) (by omega) (by omega)
        obtain ⟨x1, x2, x3, x4⟩ := ih (s1 m) s (by omega) (by omega) hs x hx
        obtain ⟨y1, y2, y3, y4⟩ := ih (s2 m) x.2 (by omega) (by omega) x1 y hy
        refine ⟨y1, ?_, fun d hd => ?_, mp_ex_app x4 y4⟩
        · show (x.1 ++ y.1).length ≤ _
          rw [List.length_append]; omega
        · rcases List.mem_append.mp hd with q | q
          · exact x3 d q
          · exact y3 d q
      · rw [if_neg o] at hw; exact nomatch hw
    · rw [mp_D, if_neg h] at hw
      exact act v s (by omega) h7 hs w hw
end
end
section
/-! counting, sublists, groups by the end state, least plans -/
section
variable {hc : Nat → Nat → Bool} {ch : Nat → Nat → Nat} {ok ok' : Nat → Nat → Nat → Bool} {s1 s2 : Nat → Nat}
theorem mp_len_seq {f g : Nat → List (List Nat × Nat)} {B s : Nat} (hf : (f s).length ≤ B) (hg : ∀ x, (g x).length ≤ B) : (mp_seq f g s).length ≤ B * B := by
  have a : ∀ l : List (List Nat × Nat), (l.flatMap (fun w => (g w.2).map (fun x => (w.1 ++ x.1, x.2)))).length ≤ l.length * B := by
    intro l
    induction l with
    | nil => exact Nat.zero_le _
    | cons w l ih =>
      have h := hg w.2
      rw [List.flatMap_cons, List.length_append, List.length_map, List.length_cons, Nat.succ_mul]
      omega
  exact Nat.le_trans (a (f s)) (Nat.mul_le_mul_right B hf)
def mp_nn (tg : Nat → Nat) (t : Nat) : List Nat → Nat
  | [] => 0
  | m :: l => (if tg m = t then 1 else 0) + mp_nn tg t l
theorem mp_len_flat {tg : Nat → Nat} {t s B : Nat} {X : Nat → List (List Nat × Nat)} (hok : ∀ m, ok t m s = true → tg m = t) : ∀ l : List Nat, (∀ m, m ∈ l → ok t m s = true → (X m).length ≤ B) → (l.flatMap (fun m => if ok t m s = true then X m else [])).length ≤ mp_nn tg t l * B := by
  intro l
  induction l with
  | nil => intro _; exact Nat.zero_le _
  | cons m l ih =>
    intro hX
    have i := ih (fun x hx => hX x (List.mem_cons_of_mem _ hx))
    rw [List.flatMap_cons, List.length_append, mp_nn, Nat.add_mul]
    by_cases o : ok t m s = true
    · have h := hX m List.mem_cons_self o
      rw [if_pos o, if_pos (hok m o)]
      omega
    · rw [if_neg o]
      exact Nat.le_trans (by rw [List.length_nil, Nat.zero_add]; exact i) (Nat.le_add_left _ _)
def mp_mx (a b : Nat) : Nat := if a ≤ b then b else a
theorem mp_mx_l (a b : Nat) : a ≤ mp_mx a b := by unfold mp_mx; split <;> omega
theorem mp_mx_r (a b : Nat) : b ≤ mp_mx a b := by unfold mp_mx; split <;> omega
def mp_b3 (d : Nat) : Nat := mp_mx 1 d
def mp_b2 (c d : Nat) : Nat := mp_mx (mp_b3 d) (c * (mp_b3 d * mp_b3 d))
def mp_b1 (b c d : Nat) : Nat := mp_mx (mp_b2 c d) (b * (mp_b2 c d * mp_b2 c d))
def mp_b0 (a b c d : Nat) : Nat := mp_mx (mp_b1 b c d) (a * (mp_b1 b c d * mp_b1 b c d))
theorem mp_b0_lt : ∀ a, a < 9 → ∀ b, b < 9 → ∀ c, c < 9 → ∀ d, d < 9 → a + b + c + d ≤ 8 → mp_b0 a b c d < 33554432 := by decide +kernel
theorem mp_nn4 (tg : Nat → Nat) (l : List Nat) : mp_nn tg 0 l + mp_nn tg 1 l + mp_nn tg 2 l + mp_nn tg 3 l ≤ l.length := by
  induction l with
  | nil => exact Nat.le_refl _
  | cons m l ih =>
    have e : ∀ t, mp_nn tg t (m :: l) = (if tg m = t then 1 else 0) + mp_nn tg t l := fun _ => rfl
    rw [e, e, e, e, List.length_cons]
    split <;> split <;> split <;> split <;> omega
theorem mp_act_len (v s : Nat) : (mp_act hc ch v s).length ≤ 1 := by
  unfold mp_act
  by_cases z : v = 0
  · rw [if_pos z]; exact Nat.le_refl _
  · rw [if_neg z]
    by_cases o : hc (v - 1) s = true
    · rw [if_pos o]; exact Nat.le_refl _
    · rw [if_neg o]; exact Nat.zero_le _
theorem mp_len_t (wf : mp_wf ok s1 s2) {tg : Nat → Nat} (hok : ∀ t m s, t < 4 → ok t m s = true → tg m = t) {t B : Nat} (ht : t < 4) (h1 : 1 ≤ B) (hB : ∀ v, 8 + t < v → v ≤ 11 → ∀ s, (mp_E hc ch ok s1 s2 v s).length ≤ B) (s : Nat) : (mp_E hc ch ok s1 s2 (8 + t) s).length ≤ mp_nn tg t (List.range 8) * (B * B) := by
  have hB' : ∀ v, mp_sk t v → ∀ s, (mp_E hc ch ok s1 s2 v s).length ≤ B := by
    intro v hv s
    rcases hv with h | h
    · rw [mp_fix0 (by omega)]
      exact Nat.le_trans (mp_act_len v s) h1
    · exact hB v h.1 h.2 s
  rw [mp_fix wf ht]
  refine mp_len_flat (fun m o => hok t m s ht o) _ (fun m hm o => ?_)
  obtain ⟨w1, w2⟩ := wf t m s ht (List.mem_range.mp hm) o
  exact mp_len_seq (hB' _ w1 s) (hB' _ w2)
theorem mp_len (wf : mp_wf ok s1 s2) {tg : Nat → Nat} (hok : ∀ t m s, t < 4 → ok t m s = true → tg m = t) {t : Nat} (ht : t < 4) (s : Nat) : (mp_E hc ch ok s1 s2 (8 + t) s).length < 33554432 := by
  have n4 := mp_nn4 tg (List.range 8)
  rw [List.length_range] at n4
  generalize ea : mp_nn tg 0 (List.range 8) = a at n4
  generalize eb : mp_nn tg 1 (List.range 8) = b at n4
  generalize ec : mp_nn tg 2 (List.range 8) = c at n4
  generalize ed : mp_nn tg 3 (List.range 8) = d at n4
  have top := mp_b0_lt a (by omega) b (by omega) c (by omega) d (by omega) n4
  have p3 : 1 ≤ mp_b3 d := mp_mx_l _ _
  have p2 : mp_b3 d ≤ mp_b2 c d := mp_mx_l _ _
  have p1 : mp_b2 c d ≤ mp_b1 b c d := mp_mx_l _ _
  have p0 : mp_b1 b c d ≤ mp_b0 a b c d := mp_mx_l _ _
  have l3 : ∀ s, (mp_E hc ch ok s1 s2 (8 + 3) s).length ≤ mp_b3 d := by
    intro s
    have := mp_len_t (hc := hc) (ch := ch) wf hok (t := 3) (B := 1) (by omega) (by omega) (fun v h1 h2 => by omega) s
    rw [ed] at this
    exact Nat.le_trans this (by rw [Nat.mul_one]; exact mp_mx_r _ _)
  have l2 : ∀ s, (mp_E hc ch ok s1 s2 (8 + 2) s).length ≤ mp_b2 c d := by
    intro s
    have := mp_len_t (hc := hc) (ch := ch) wf hok (t := 2) (B := mp_b3 d) (by omega) (by omega) (fun v h1 h2 s => by
      have e : v = 8 + 3 := by omega
      rw [e]; exact l3 s) s
    rw [ec] at this
    exact Nat.le_trans this (mp_mx_r _ _)
  have l1 : ∀ s, (mp_E hc ch ok s1 s2 (8 + 1) s).length ≤ mp_b1 b c d := by
    intro s
    have := mp_len_t (hc := hc) (ch := ch) wf hok (t := 1) (B := mp_b2 c d) (by omega) (by omega) (fun v h1 h2 s => by
      rcases (show v = 8 + 2 ∨ v = 8 + 3 from by omega) with e | e
      · rw [e]; exact l2 s
      · rw [e]; exact Nat.le_trans (l3 s) p2) s
    rw [eb] at this
    exact Nat.le_trans this (mp_mx_r _ _)
  have l0 : ∀ s, (mp_E hc ch ok s1 s2 (8 + 0) s).length ≤ mp_b0 a b c d := by
    intro s
    have := mp_len_t (hc := hc) (ch := ch) wf hok (t := 0) (B := mp_b1 b c d) (by omega) (by omega) (fun v h1 h2 s => by
      rcases (show v = 8 + 1 ∨ v = 8 + 2 ∨ v = 8 + 3 from by omega) with e | e | e
      · rw [e]; exact l1 s
      · rw [e]; exact Nat.le_trans (l2 s) p1
      · rw [e]; exact Nat.le_trans (l3 s) (Nat.le_trans p2 p1)) s
    rw [ea] at this
    exact Nat.le_trans this (mp_mx_r _ _)
  rcases (show t = 0 ∨ t = 1 ∨ t = 2 ∨ t = 3 from by omega) with e | e | e | e
  · rw [e]; exact Nat.lt_of_le_of_lt (l0 s) top
  · rw [e]; exact Nat.lt_of_le_of_lt (Nat.le_trans (l1 s) p0) top
  · rw [e]; exact Nat.lt_of_le_of_lt (Nat.le_trans (l2 s) (Nat.le_trans p1 p0)) top
  · rw [e]; exact Nat.lt_of_le_of_lt (Nat.le_trans (l3 s) (Nat.le_trans p2 (Nat.le_trans p1 p0))) top
theorem mp_sub_fm {α β : Type} {f g : α → List β} : ∀ {l : List α}, (∀ x, x ∈ l → List.Sublist (f x) (g x)) → List.Sublist (l.flatMap f) (l.flatMap g) := by
  intro l
  induction l with
  | nil => intro _; exact List.Sublist.refl _
  | cons a l ih =>
    intro h
    rw [List.flatMap_cons, List.flatMap_cons]
    exact List.Sublist.append (h a List.mem_cons_self) (ih (fun x hx => h x (List.mem_cons_of_mem _ hx)))
theorem mp_sub_l {α β : Type} {f : α → List β} {l m : List α} (h : List.Sublist l m) : List.Sublist (l.flatMap f) (m.flatMap f) := by
  induction h with
  | slnil => exact List.Sublist.refl _
  | cons a h ih => rw [List.flatMap_cons]; exact List.Sublist.trans ih (List.sublist_append_right _ _)
  | cons_cons a h ih => rw [List.flatMap_cons, List.flatMap_cons]; exact List.Sublist.append (List.Sublist.refl _) ih
theorem mp_sub (h : ∀ t m s, ok' t m s = true → ok t m s = true) : ∀ k v s, List.Sublist (mp_D hc ch ok' s1 s2 k v s) (mp_D hc ch ok s1 s2 k v s) := by
  intro k
  induction k with
  | zero => intro v s; exact List.Sublist.refl _
  | succ k ih =>
    intro v s
    rw [mp_D, mp_D]
    by_cases h8 : 8 ≤ v
    · rw [if_pos h8, if_pos h8]
      refine mp_sub_fm (fun m _ => ?_)
      by_cases o : ok' (v - 8) m s = true
      · rw [if_pos o, if_pos (h _ _ _ o)]
        refine List.Sublist.trans (mp_sub_l (ih _ _)) (mp_sub_fm (fun w _ => ?_))
        exact List.Sublist.map _ (ih _ _)
      · rw [if_neg o]; exact List.nil_sublist _
    · rw [if_neg h8, if_neg h8]; exact List.Sublist.refl _
/-- plans that end in e -/
def mp_pe (L : List (List Nat × Nat)) (e : Nat) : List (List Nat) := (L.filter (fun w => w.2 == e)).map (fun w => w.1)
theorem mp_pe_cons (w : List Nat × Nat) (L : List (List Nat × Nat)) (e : Nat) : mp_pe (w :: L) e = (if w.2 = e then [w.1] else []) ++ mp_pe L e := by
  unfold mp_pe
  by_cases h : w.2 = e
  · rw [List.filter_cons_of_pos (by rw [h]; exact beq_self_eq_true e), if_pos h]; rfl
  · rw [List.filter_cons_of_neg (by rw [beq_iff_eq]; exact h), if_neg h]; rfl
theorem mp_pe_app (L M : List (List Nat × Nat)) (e : Nat) : mp_pe (L ++ M) e = mp_pe L e ++ mp_pe M e := by
  unfold mp_pe
  rw [List.filter_append, List.map_append]
theorem mp_pe_mem {L : List (List Nat × Nat)} {e : Nat} {p : List Nat} : p ∈ mp_pe L e ↔ (p, e) ∈ L := by
  unfold mp_pe
  constructor
  · intro h
    obtain ⟨w, hw, rfl⟩ := List.mem_map.mp h
    obtain ⟨h1, h2⟩ := List.mem_filter.mp hw
    have := beq_iff_eq.mp h2
    rw [← this]; exact h1
  · intro h
    exact List.mem_map.mpr ⟨(p, e), List.mem_filter.mpr ⟨h, beq_self_eq_true e⟩, rfl⟩
def mp_su (f : Nat → Nat) : Nat → Nat
  | 0 => 0
  | n + 1 => mp_su f n + f n
theorem mp_su_ind (k : Nat) (f : Nat → Nat) : ∀ n, mp_su (fun x => (if k = x then 1 else 0) + f x) n = (if k < n then 1 else 0) + mp_su f n := by
  intro n
  induction n with
  | zero => rfl
  | succ n ih =>
    rw [mp_su, ih, mp_su]
    by_cases h : k < n
    · rw [if_pos h, if_neg (show ¬ k = n from by omega), if_pos (show k < n + 1 from by omega)]; omega
    · by_cases h2 : k = n
      · rw [if_neg h, if_pos h2, if_pos (show k < n + 1 from by omega)]; omega
      · rw [if_neg h, if_neg h2, if_neg (show ¬ k < n + 1 from by omega)]; omega
theorem mp_su_congr {f g : Nat → Nat} : ∀ n, (∀ x, x < n → f x = g x) → mp_su f n = mp_su g n := by
  intro n
  induction n with
  | zero => intro _; rfl
  | succ n ih => intro h; rw [mp_su, mp_su, ih (fun x hx => h x (by omega)), h n (by omega)]
theorem mp_su_pe {n : Nat} : ∀ {L : List (List Nat × Nat)}, (∀ w, w ∈ L → w.2 < n) → mp_su (fun e => (mp_pe L e).length) n = L.length := by
  intro L
  induction L with
  | nil =>
    intro _
    have : ∀ n, mp_su (fun e => (mp_pe [] e).length) n = 0 := by
      intro n
      induction n with
      | zero => rfl
      | succ n ih => rw [mp_su, ih]; rfl
    exact this n
  | cons w L ih =>
    intro h
    rw [mp_su_congr (g := fun e => (if w.2 = e then 1 else 0) + (mp_pe L e).length) n (fun e _ => by
      rw [mp_pe_cons, List.length_append]
      by_cases q : w.2 = e
      · rw [if_pos q, if_pos q]; rfl
      · rw [if_neg q, if_neg q]; rfl)]
    rw [mp_su_ind, ih (fun x hx => h x (List.mem_cons_of_mem _ hx)), if_pos (h w List.mem_cons_self), List.length_cons]
    omega
theorem mp_su_le {f : Nat → Nat} : ∀ {n e : Nat}, e < n → f e ≤ mp_su f n := by
  intro n
  induction n with
  | zero => intro e h; omega
  | succ n ih =>
    intro e h
    rw [mp_su]
    by_cases q : e < n
    · have := ih q
      omega
    · have : e = n := by omega
      rw [this]; omega
theorem mp_pe_len (L : List (List Nat × Nat)) (e : Nat) : (mp_pe L e).length ≤ L.length := by
  unfold mp_pe
  rw [List.length_map]
  exact List.length_filter_le _ _
/-- all plans of M1 followed by all plans of M2 -/
def mp_pr (A B : List (List Nat)) : List (List Nat) := A.flatMap (fun p => B.map (fun q => p ++ q))
theorem mp_pe_seq (f g : Nat → List (List Nat × Nat)) (s e : Nat) : mp_pe (mp_seq f g s) e = (f s).flatMap (fun w => (mp_pe (g w.2) e).map (fun q => w.1 ++ q)) := by
  unfold mp_pe mp_seq
  simp only [List.filter_flatMap, List.filter_map, List.map_flatMap, List.map_map, Function.comp_def]
theorem mp_pull {α : Type} {k : Nat} {A : List α} {G : Nat → List α} : ∀ n, k < n → List.Perm ((List.range n).flatMap (fun x => (if k = x then A else []) ++ G x)) (A ++ (List.range n).flatMap G) := by
  intro n
  induction n with
  | zero => intro h; exact absurd h (Nat.not_lt_zero _)
  | succ n ih =>
    intro h
    rw [List.range_succ, List.flatMap_append, List.flatMap_append, List.flatMap_singleton, List.flatMap_singleton]
    by_cases q : k = n
    · have e : (List.range n).flatMap (fun x => (if k = x then A else []) ++ G x) = (List.range n).flatMap G := mp_fmc (fun x hx => by
        have := List.mem_range.mp hx
        rw [if_neg (by omega)]; rfl)
      rw [e, if_pos q]
      exact List.perm_append_comm_assoc _ _ _
    · rw [if_neg q, List.nil_append, ← List.append_assoc]
      exact List.Perm.append (ih (by omega)) (List.Perm.refl _)
theorem mp_fm_perm {α β : Type} {f g : α → List β} : ∀ {l : List α}, (∀ x, x ∈ l → List.Perm (f x) (g x)) → List.Perm (l.flatMap f) (l.flatMap g) := by
  intro l
  induction l with
  | nil => intro _; exact List.Perm.refl _
  | cons a l ih =>
    intro h
    rw [List.flatMap_cons, List.flatMap_cons]
    exact List.Perm.append (h a List.mem_cons_self) (ih (fun x hx => h x (List.mem_cons_of_mem _ hx)))
theorem mp_group {α : Type} {n : Nat} {H : Nat → List Nat → List α} : ∀ {L : List (List Nat × Nat)}, (∀ w, w ∈ L → w.2 < n) → List.Perm (L.flatMap (fun w => H w.2 w.1)) ((List.range n).flatMap (fun k => (mp_pe L k).flatMap (H k))) := by
  intro L
  induction L with
  | nil =>
    intro _
    rw [show (List.range n).flatMap (fun k => (mp_pe [] k).flatMap (H k)) = (List.range n).flatMap (fun _ => []) from rfl, List.flatMap_nil]
    have : ∀ l : List Nat, l.flatMap (fun _ => ([] : List α)) = [] := by
      intro l
      induction l with
      | nil => rfl
      | cons a l ih => rw [List.flatMap_cons, ih]; rfl
    rw [this]
  | cons w L ih =>
    intro h
    rw [List.flatMap_cons]
    have e : (List.range n).flatMap (fun k => (mp_pe (w :: L) k).flatMap (H k)) = (List.range n).flatMap (fun k => (if w.2 = k then H w.2 w.1 else []) ++ (mp_pe L k).flatMap (H k)) := mp_fmc (fun k _ => by
      rw [mp_pe_cons, List.flatMap_append]
      by_cases q : w.2 = k
      · rw [if_pos q, if_pos q, List.flatMap_singleton, q]
      · rw [if_neg q, if_neg q]; rfl)
    rw [e]
    exact List.Perm.trans (List.Perm.append (List.Perm.refl _) (ih (fun x hx => h x (List.mem_cons_of_mem _ hx)))) (List.Perm.symm (mp_pull n (h w List.mem_cons_self)))
theorem mp_pe_fm {α : Type} (l : List α) (f : α → List (List Nat × Nat)) (e : Nat) : mp_pe (l.flatMap f) e = l.flatMap (fun x => mp_pe (f x) e) := by
  unfold mp_pe
  simp only [List.filter_flatMap, List.map_flatMap]
/-- what the table's cell t s e collects from one method -/
def mp_mm (E : Nat → Nat → List (List Nat × Nat)) (s1 s2 : Nat → Nat) (m s e : Nat) (k : Nat) : List (List Nat) := (List.range k).flatMap (fun x => mp_pr (mp_pe (E (s1 m) s) x) (mp_pe (E (s2 m) x) e))
theorem mp_cell (wf : mp_wf ok s1 s2) (hch : ∀ a s, s < 32 → ch a s < 32) {t s e : Nat} (ht : t < 4) (hs : s < 32) : List.Perm (mp_pe (mp_E hc ch ok s1 s2 (8 + t) s) e) ((List.range 8).flatMap (fun m => if ok t m s = true then mp_mm (mp_E hc ch ok s1 s2) s1 s2 m s e 32 else [])) := by
  rw [mp_fix wf ht, mp_pe_fm]
  refine mp_fm_perm (fun m hm => ?_)
  by_cases o : ok t m s = true
  · obtain ⟨w1, w2⟩ := wf t m s ht (List.mem_range.mp hm) o
    rw [if_pos o, if_pos o, mp_pe_seq]
    unfold mp_sk at w1
    exact mp_group (H := fun x p => (mp_pe (mp_E hc ch ok s1 s2 (s2 m) x) e).map (fun q => p ++ q)) (fun w hw => (mp_D_ok wf hch 4 (s1 m) s (by omega) (by omega) hs w hw).1)
  · rw [if_neg o, if_neg o]; exact List.Perm.refl _
end
end
section
/-! plans as numbers, the least plan, what a cell of the table says -/
section
def mp_code : List Nat → Nat
  | [] => 0
  | d :: p => d * 6 ^ p.length + mp_code p
theorem mp_code_app (p q : List Nat) : mp_code (p ++ q) = mp_code p * 6 ^ q.length + mp_code q := by
  induction p with
  | nil => rw [List.nil_append]; show _ = 0 * _ + _; rw [Nat.zero_mul, Nat.zero_add]
  | cons d p ih =>
    show d * 6 ^ (p ++ q).length + mp_code (p ++ q) = (d * 6 ^ p.length + mp_code p) * 6 ^ q.length + mp_code q
    rw [ih, List.length_append, Nat.pow_add, Nat.add_mul, Nat.mul_assoc, Nat.add_assoc]
theorem mp_code_lt : ∀ p : List Nat, (∀ d, d ∈ p → d < 6) → mp_code p < 6 ^ p.length := by
  intro p
  induction p with
  | nil => intro _; exact Nat.one_pos
  | cons d p ih =>
    intro h
    have a := ih (fun x hx => h x (List.mem_cons_of_mem _ hx))
    have b := h d List.mem_cons_self
    show d * 6 ^ p.length + mp_code p < 6 ^ (p.length + 1)
    have c : d * 6 ^ p.length ≤ 5 * 6 ^ p.length := Nat.mul_le_mul_right _ (by omega)
    rw [Nat.pow_succ]
    omega
theorem mp_code_dig : ∀ (p : List Nat) (i : Nat), (∀ d, d ∈ p → d < 6) → i < p.length → mp_code p / 6 ^ (p.length - 1 - i) % 6 = p.getD i 0 := by
  intro p
  induction p with
  | nil => intro i _ h; exact absurd h (Nat.not_lt_zero _)
  | cons d p ih =>
    intro i h hi
    have hp : ∀ x, x ∈ p → x < 6 := fun x hx => h x (List.mem_cons_of_mem _ hx)
    have hd := h d List.mem_cons_self
    have lt := mp_code_lt p hp
    have pos : 0 < 6 ^ p.length := Nat.pow_pos (by decide)
    cases i with
    | zero =>
      show (d * 6 ^ p.length + mp_code p) / 6 ^ (p.length + 1 - 1 - 0) % 6 = d
      rw [show p.length + 1 - 1 - 0 = p.length from by omega, Nat.add_comm, Nat.add_mul_div_right _ _ pos, Nat.div_eq_of_lt lt, Nat.zero_add]
      exact Nat.mod_eq_of_lt hd
    | succ i =>
      have hi' : i < p.length := by
        have : i + 1 < p.length + 1 := hi
        omega
      show (d * 6 ^ p.length + mp_code p) / 6 ^ (p.length + 1 - 1 - (i + 1)) % 6 = p.getD i 0
      rw [← ih i hp hi', show p.length + 1 - 1 - (i + 1) = p.length - 1 - i from by omega]
      have e : d * 6 ^ p.length = (d * 6 ^ i * 6) * 6 ^ (p.length - 1 - i) := by
        rw [Nat.mul_assoc, Nat.mul_assoc, ← Nat.pow_succ', ← Nat.pow_add, show i + (p.length - 1 - i).succ = p.length from by omega]
      rw [e, Nat.add_comm, Nat.add_mul_div_right _ _ (Nat.pow_pos (by decide)), Nat.add_mul_mod_self_right]
def mp_kl (l c l' c' : Nat) : Prop := l < l' ∨ (l = l' ∧ c ≤ c')
def mp_bs (M : List (List Nat)) (l c : Nat) : Prop := ∃ p, p ∈ M ∧ l = p.length ∧ c = mp_code p ∧ ∀ q, q ∈ M → mp_kl l c q.length (mp_code q)
theorem mp_bs_pr {M N : List (List Nat)} {a b a' b' : Nat} (h : mp_bs M a b) (h' : mp_bs N a' b') : mp_bs (mp_pr M N) (a + a') (b * 6 ^ a' + b') := by
  obtain ⟨p, hp, rfl, rfl, lp⟩ := h
  obtain ⟨q, hq, rfl, rfl, lq⟩ := h'
  refine ⟨p ++ q, List.mem_flatMap.mpr ⟨p, hp, List.mem_map.mpr ⟨q, hq, rfl⟩⟩, List.length_append.symm, (mp_code_app p q).symm, fun r hr => ?_⟩
  obtain ⟨x, hx, hr⟩ := List.mem_flatMap.mp hr
  obtain ⟨y, hy, rfl⟩ := List.mem_map.mp hr
  have kx := lp x hx
  have ky := lq y hy
  rw [List.length_append, mp_code_app]
  unfold mp_kl at kx ky ⊢
  by_cases s : p.length + q.length < x.length + y.length
  · exact Or.inl s
  · refine Or.inr ⟨by omega, ?_⟩
    have e : q.length = y.length := by omega
    have c1 : mp_code p ≤ mp_code x := by omega
    have c2 : mp_code q ≤ mp_code y := by omega
    rw [e]
    exact Nat.add_le_add (Nat.mul_le_mul_right _ c1) c2
theorem mp_bs_l {M N : List (List Nat)} {a b a' b' : Nat} (h : mp_bs M a b) (h' : mp_bs N a' b') (k : mp_kl a b a' b') : mp_bs (M ++ N) a b := by
  obtain ⟨p, hp, e1, e2, lp⟩ := h
  obtain ⟨q, hq, f1, f2, lq⟩ := h'
  refine ⟨p, List.mem_append_left _ hp, e1, e2, fun r hr => ?_⟩
  rcases List.mem_append.mp hr with hr | hr
  · exact lp r hr
  · have := lq r hr
    unfold mp_kl at *
    omega
theorem mp_bs_r {M N : List (List Nat)} {a b a' b' : Nat} (h : mp_bs M a b) (h' : mp_bs N a' b') (k : mp_kl a' b' a b) : mp_bs (M ++ N) a' b' := by
  obtain ⟨p, hp, e1, e2, lp⟩ := h
  obtain ⟨q, hq, f1, f2, lq⟩ := h'
  refine ⟨q, List.mem_append_right _ hq, f1, f2, fun r hr => ?_⟩
  rcases List.mem_append.mp hr with hr | hr
  · have := lp r hr
    unfold mp_kl at *
    omega
  · exact lq r hr
theorem mp_bs_uniq {M : List (List Nat)} {a b a' b' : Nat} (h : mp_bs M a b) (h' : mp_bs M a' b') : a = a' ∧ b = b' := by
  obtain ⟨p, hp, e1, e2, lp⟩ := h
  obtain ⟨q, hq, f1, f2, lq⟩ := h'
  have x := lp q hq
  have y := lq p hp
  unfold mp_kl at x y
  omega
theorem mp_bs_one (p : List Nat) : mp_bs [p] p.length (mp_code p) := by
  refine ⟨p, List.mem_singleton.mpr rfl, rfl, rfl, fun q hq => ?_⟩
  rw [List.mem_singleton.mp hq]
  exact Or.inr ⟨rfl, Nat.le_refl _⟩
theorem mp_bs_perm {M N : List (List Nat)} {a b : Nat} (p : List.Perm M N) (h : mp_bs M a b) : mp_bs N a b := by
  obtain ⟨q, hq, e1, e2, lp⟩ := h
  exact ⟨q, (List.Perm.mem_iff p).mp hq, e1, e2, fun r hr => lp r ((List.Perm.mem_iff p).mpr hr)⟩
theorem mp_bs_ne {M : List (List Nat)} {a b : Nat} (h : mp_bs M a b) : M ≠ [] := by
  obtain ⟨q, hq, _⟩ := h
  intro z
  rw [z] at hq
  exact nomatch hq
def mp_wb (M : List (List Nat)) : Prop := ∀ p, p ∈ M → p.length ≤ 16 ∧ ∀ d, d ∈ p → d < 6
theorem mp_wb_app {M N : List (List Nat)} (h : mp_wb M) (h' : mp_wb N) : mp_wb (M ++ N) := fun p hp => (List.mem_append.mp hp).elim (h p) (h' p)
theorem mp_wb_perm {M N : List (List Nat)} (q : List.Perm M N) (h : mp_wb M) : mp_wb N := fun p hp => h p ((List.Perm.mem_iff q).mpr hp)
theorem mp_616 : 6 ^ 16 < 2 ^ 43 := by decide
theorem mp_bs_bd {M : List (List Nat)} {a b : Nat} (w : mp_wb M) (h : mp_bs M a b) : a ≤ 16 ∧ b < 2 ^ 43 := by
  obtain ⟨p, hp, rfl, rfl, _⟩ := h
  have x := w p hp
  exact ⟨x.1, Nat.lt_of_lt_of_le (mp_code_lt p x.2) (Nat.le_of_lt (Nat.lt_of_le_of_lt (Nat.pow_le_pow_right (by decide) x.1) mp_616))⟩
def mp_rw (M : List (List Nat)) (w l : Int32) (c : Int64) : Prop := w = nI M.length ∧ (M ≠ [] → ∃ a b, l = nI a ∧ c = lN b ∧ mp_bs M a b)
def mp_rp (M : List (List Nat)) (w l : Int32) (c : Int64) : Prop := mp_rw M w l c ∧ (M = [] → l = 99 ∧ c = 0)
theorem mp_rp_perm {M N : List (List Nat)} {w l : Int32} {c : Int64} (q : List.Perm M N) (h : mp_rp M w l c) : mp_rp N w l c := by
  obtain ⟨⟨h1, h2⟩, h3⟩ := h
  refine ⟨⟨by rw [h1, List.Perm.length_eq q], fun hN => ?_⟩, fun hN => ?_⟩
  · have hM : M ≠ [] := fun z => by
      rw [z] at q
      exact hN (List.Perm.nil_eq q).symm
    obtain ⟨a, b, e1, e2, e3⟩ := h2 hM
    exact ⟨a, b, e1, e2, mp_bs_perm q e3⟩
  · rw [hN] at q
    exact h3 (List.Perm.eq_nil q)
theorem mp_rp_nil : mp_rp [] 0 99 0 := ⟨⟨rfl, fun z => absurd rfl z⟩, fun _ => ⟨rfl, rfl⟩⟩
theorem mp_pr_nil (A : List (List Nat)) : mp_pr A [] = [] := by
  unfold mp_pr
  induction A with
  | nil => rfl
  | cons a A ih => rw [List.flatMap_cons, ih]; rfl
theorem mp_pr_len (A B : List (List Nat)) : (mp_pr A B).length = A.length * B.length := by
  unfold mp_pr
  induction A with
  | nil => rw [List.flatMap_nil]; exact (Nat.zero_mul _).symm
  | cons a A ih => rw [List.flatMap_cons, List.length_append, List.length_map, ih, List.length_cons, Nat.succ_mul, Nat.add_comm]
theorem mp_pr_ne {A B : List (List Nat)} (hA : A ≠ []) (hB : B ≠ []) : mp_pr A B ≠ [] := by
  intro z
  have := mp_pr_len A B
  rw [z] at this
  have a := List.length_pos_iff.mpr hA
  have b := List.length_pos_iff.mpr hB
  have := Nat.mul_pos a b
  rw [List.length_nil] at *
  omega
end
end
section
/-! the program's numbers as the pure picture's -/
section
def mq_hd (c x : Int32) : Bool := decide (((c &&& 31) &&& (x ^^^ (-1))) = 0) && decide (((c >>> ((5 : Int32) &&& 31)) &&& x) = 0)
def mq_hc (cn : Nat → Int32) (a s : Nat) : Bool := mq_hd (cn a) (nI s)
def mq_ex (c x : Int32) : Int32 := (x &&& ((c >>> ((5 : Int32) &&& 31)) ^^^ (-1))) ||| (c &&& 31)
def mq_ch (ef : Nat → Int32) (a s : Nat) : Nat := (mq_ex (ef a) (nI s)).toNatClampNeg
theorem mq_of (x : Int32) : x = nI x.toBitVec.toNat := by
  apply Int32.toBitVec_inj.mp
  apply BitVec.eq_of_toNat_eq
  exact (pk_tn x.toBitVec.isLt).symm
theorem mq_ex_lt (c : Int32) {s : Nat} (hs : s < 32) : (mq_ex c (nI s)).toBitVec.toNat < 32 := by
  unfold mq_ex
  rw [Int32.toBitVec_or, BitVec.toNat_or]
  refine Nat.or_lt_two_pow (n := 5) ?_ ?_
  · rw [Int32.toBitVec_and, BitVec.toNat_and, pk_tn (by omega)]
    exact Nat.lt_of_le_of_lt Nat.and_le_left hs
  · rw [Int32.toBitVec_and, BitVec.toNat_and]
    exact Nat.lt_of_le_of_lt Nat.and_le_right (by decide)
theorem mq_ch_e {ef : Nat → Int32} {a s : Nat} (hs : s < 32) : mq_ex (ef a) (nI s) = nI (mq_ch ef a s) ∧ mq_ch ef a s < 32 := by
  have h := mq_ex_lt (ef a) hs
  have e := mq_of (mq_ex (ef a) (nI s))
  have q : mq_ch ef a s = (mq_ex (ef a) (nI s)).toBitVec.toNat := by
    unfold mq_ch
    rw [e, nI_clamp (by omega), ← e]
  rw [q]
  exact ⟨e, h⟩
theorem mq_ch_lt {ef : Nat → Int32} : ∀ a s, s < 32 → mq_ch ef a s < 32 := fun _ _ h => (mq_ch_e h).2
def mq_ok (th tk dm : Nat → Int32) (t m s : Nat) : Bool := decide (¬ th m = 0) && (decide (tk m = nI t) && mq_hd (dm m) (nI s))
theorem mq_ok_iff {th tk dm : Nat → Int32} {t m s : Nat} : mq_ok th tk dm t m s = true ↔ ¬ th m = 0 ∧ tk m = nI t ∧ mq_hd (dm m) (nI s) = true := by
  unfold mq_ok
  rw [Bool.and_eq_true, Bool.and_eq_true, decide_eq_true_eq, decide_eq_true_eq]
def mq_fs (st : Nat → Int32) : Nat → Int32 := fun m => st m &&& 15
def mq_ss (st : Nat → Int32) : Nat → Int32 := fun m => st m >>> ((4 : Int32) &&& 31)
def mq_s1 (st : Nat → Int32) (m : Nat) : Nat := (mq_fs st m).toNatClampNeg
def mq_s2 (st : Nat → Int32) (m : Nat) : Nat := (mq_ss st m).toNatClampNeg
def mq_W (th tk st : Nat → Int32) : Prop := ∀ m, m < 8 → ¬ th m = 0 → ∃ t, t < 4 ∧ tk m = nI t ∧ mp_sk t (mq_s1 st m) ∧ mp_sk t (mq_s2 st m) ∧ mq_fs st m = nI (mq_s1 st m) ∧ mq_ss st m = nI (mq_s2 st m)
theorem mq_wf {th tk dm st : Nat → Int32} (w : mq_W th tk st) : mp_wf (mq_ok th tk dm) (mq_s1 st) (mq_s2 st) := by
  intro t m s ht hm o
  obtain ⟨a, b, _⟩ := mq_ok_iff.mp o
  obtain ⟨t', ht', e, x, y, _⟩ := w m hm a
  have : t = t' := (nI_eq (by omega) (by omega)).mp (b.symm.trans e)
  rw [this]
  exact ⟨x, y⟩
def mq_E (cn ef th tk dm st : Nat → Int32) : Nat → Nat → List (List Nat × Nat) := mp_E (mq_hc cn) (mq_ch ef) (mq_ok th tk dm) (mq_s1 st) (mq_s2 st)
theorem mq_E_len {cn ef th tk dm st : Nat → Int32} (w : mq_W th tk st) {t : Nat} (ht : t < 4) (s : Nat) : (mq_E cn ef th tk dm st (8 + t) s).length < 33554432 :=
  mp_len (mq_wf w) (tg := fun m => (tk m).toNatClampNeg) (fun t m s ht o => by
    obtain ⟨_, b, _⟩ := mq_ok_iff.mp o
    show (tk m).toNatClampNeg = t
    rw [b, nI_clamp (by omega)]) ht s
theorem mq_E_ok {cn ef th tk dm st : Nat → Int32} (w : mq_W th tk st) {v s : Nat} (hv : v < 12) (h7 : v ≠ 7) (hs : s < 32) : ∀ x, x ∈ mq_E cn ef th tk dm st v s → mp_good (mq_hc cn) (mq_ch ef) s (mp_pc v) x := mp_D_ok (mq_wf w) mq_ch_lt 4 v s hv h7 hs
theorem mq_E_wb {cn ef th tk dm st : Nat → Int32} (w : mq_W th tk st) {v s : Nat} (hv : v < 12) (h7 : v ≠ 7) (hs : s < 32) (e : Nat) : mp_wb (mp_pe (mq_E cn ef th tk dm st v s) e) := by
  intro p hp
  obtain ⟨_, a, b, _⟩ := mq_E_ok w hv h7 hs _ (mp_pe_mem.mp hp)
  exact ⟨Nat.le_trans a (mp_pc1 v hv).2.1, b⟩
theorem mq_E_su {cn ef th tk dm st : Nat → Int32} (w : mq_W th tk st) {v s : Nat} (hv : v < 12) (h7 : v ≠ 7) (hs : s < 32) : mp_su (fun e => (mp_pe (mq_E cn ef th tk dm st v s) e).length) 32 = (mq_E cn ef th tk dm st v s).length := mp_su_pe (fun x hx => (mq_E_ok w hv h7 hs x hx).1)
/-! the set of methods as bits -/
def mq_B (xpr : Int32) (th : Nat → Int32) : Prop := ∃ P, P < 256 ∧ xpr = nI P ∧ ∀ m, m < 8 → th m = if P.testBit m = true then 1 else 0
theorem mq_has0 : ∀ P, P < 256 → ∀ m, m < 8 → (((nI P >>> (nI m &&& 31)) &&& 1 = 0) ↔ P.testBit m = false) := by decide +kernel
theorem mq_set0 : ∀ P, P < 256 → ∀ m, m < 8 → (nI P ||| ((1 : Int32) <<< (nI m &&& 31)) = nI (P ||| 2 ^ m)) := by decide +kernel
theorem mq_set1 : ∀ P, P < 256 → ∀ m, m < 8 → P ||| 2 ^ m < 256 ∧ ∀ k, k < 8 → (P ||| 2 ^ m).testBit k = (P.testBit k || decide (k = m)) := by decide +kernel
theorem mq_clr0 : ∀ P, P < 256 → ∀ m, m < 8 → (nI P &&& (((1 : Int32) <<< (nI m &&& 31)) ^^^ (-1)) = nI (P &&& (255 ^^^ 2 ^ m))) := by decide +kernel
theorem mq_clr1 : ∀ P, P < 256 → ∀ m, m < 8 → P &&& (255 ^^^ 2 ^ m) < 256 ∧ ∀ k, k < 8 → (P &&& (255 ^^^ 2 ^ m)).testBit k = (P.testBit k && decide (¬ k = m)) := by decide +kernel
theorem mq_back : ∀ P, P < 256 → ∀ m, m < 8 → P.testBit m = true → (P &&& (255 ^^^ 2 ^ m)) ||| 2 ^ m = P := by decide +kernel
theorem mq_acc : ∀ P, P < 256 → ∀ k, k < 8 → (P.testBit k = true → nI (P % 2 ^ k) ||| ((1 : Int32) <<< (nI k &&& 31)) = nI (P % 2 ^ (k + 1))) ∧ (P.testBit k = false → P % 2 ^ k = P % 2 ^ (k + 1)) := by decide +kernel
theorem mq_B_01 {xpr : Int32} {th : Nat → Int32} (b : mq_B xpr th) {m : Nat} (hm : m < 8) : th m = 0 ∨ th m = 1 := by
  obtain ⟨P, _, _, h⟩ := b
  have := h m hm
  by_cases q : P.testBit m = true
  · rw [if_pos q] at this; exact Or.inr this
  · rw [if_neg q] at this; exact Or.inl this
theorem mq_B_has {xpr : Int32} {th : Nat → Int32} (b : mq_B xpr th) {m : Nat} (hm : m < 8) : ((xpr >>> (nI m &&& 31)) &&& 1 = 0) ↔ th m = 0 := by
  obtain ⟨P, hP, rfl, h⟩ := b
  rw [mq_has0 P hP m hm, h m hm]
  by_cases q : P.testBit m = true
  · rw [if_pos q, q]; decide
  · rw [if_neg q]
    exact ⟨fun _ => rfl, fun _ => by revert q; cases P.testBit m <;> decide⟩
theorem mq_B_set {xpr : Int32} {th : Nat → Int32} (b : mq_B xpr th) {m : Nat} (hm : m < 8) : mq_B (xpr ||| ((1 : Int32) <<< (nI m &&& 31))) (upd th m 1) := by
  obtain ⟨P, hP, rfl, h⟩ := b
  obtain ⟨a, c⟩ := mq_set1 P hP m hm
  refine ⟨P ||| 2 ^ m, a, mq_set0 P hP m hm, fun k hk => ?_⟩
  rw [c k hk]
  by_cases q : k = m
  · rw [q, pk_us, if_pos (by rw [decide_eq_true rfl, Bool.or_true])]
  · rw [pk_un q, h k hk, decide_eq_false q, Bool.or_false]
theorem mq_B_clr {xpr : Int32} {th : Nat → Int32} (b : mq_B xpr th) {m : Nat} (hm : m < 8) : mq_B (xpr &&& (((1 : Int32) <<< (nI m &&& 31)) ^^^ (-1))) (upd th m 0) := by
  obtain ⟨P, hP, rfl, h⟩ := b
  obtain ⟨a, c⟩ := mq_clr1 P hP m hm
  refine ⟨P &&& (255 ^^^ 2 ^ m), a, mq_clr0 P hP m hm, fun k hk => ?_⟩
  rw [c k hk]
  by_cases q : k = m
  · rw [q, pk_us, if_neg (by rw [decide_eq_false (fun z => z rfl), Bool.and_false]; decide)]
  · rw [pk_un q, h k hk, decide_eq_true q, Bool.and_true]
theorem mq_B_back {xpr : Int32} {th : Nat → Int32} (b : mq_B xpr th) {m : Nat} (hm : m < 8) (q : ¬ th m = 0) : (xpr &&& (((1 : Int32) <<< (nI m &&& 31)) ^^^ (-1))) ||| ((1 : Int32) <<< (nI m &&& 31)) = xpr := by
  obtain ⟨P, hP, rfl, h⟩ := b
  have a := (mq_clr1 P hP m hm).1
  have t : P.testBit m = true := by
    rw [h m hm] at q
    by_cases z : P.testBit m = true
    · exact z
    · rw [if_neg z] at q; exact absurd rfl q
  rw [mq_clr0 P hP m hm, mq_set0 _ a m hm, mq_back P hP m hm t]
theorem mq_W_clr {th tk st : Nat → Int32} (w : mq_W th tk st) (m : Nat) : mq_W (upd th m 0) tk st := by
  intro k hk h
  by_cases q : k = m
  · rw [q, pk_us] at h; exact absurd rfl h
  · rw [pk_un q] at h; exact w k hk h
/-! small types -/
theorem mq_ns {q : Nat} (h : q < 1024) : vp_nar .short (nI q).toInt16.toInt32 = nI q := by
  have t : (nI q).toInt = q := nI_toInt (by omega)
  rw [pk_vs]
  exact lg_i2s_small (by omega) (by omega)
theorem mq_nb {q : Nat} (h : q < 128) : vp_nar .byte (nI q).toInt8.toInt32 = nI q := by
  have t : (nI q).toInt = q := nI_toInt (by omega)
  rw [pk_vb]
  exact lg_i2b_small (by omega) (by omega)
theorem mq_n99 : vp_nar .byte 99 = 99 := by rw [vp_nar_byte]; decide
theorem mq_nz1 : vp_nar .boolean 1 = 1 := rfl
theorem mq_nz0 : vp_nar .boolean 0 = 0 := rfl
end
end
section
/-! the component's walk: steps and tables -/
section
variable {xpr xsz xkn xsw xsl : Int32} {xsc : Int64} {cn ef th tk dm st li wc pl kw sa pcs : Nat → Int32} {pc : Nat → Int64}
theorem xk_holds {post : Int32 → Prop} {c x : Int32} (h1 : mq_hd c x = true → post 1) (h0 : mq_hd c x = false → post 0) : wpX_holds post c x := by
  intro y ey z ez
  subst ey ez
  refine br_c (fun a => br_c (fun b => ?_) (fun b => ?_)) (fun a => ?_)
  · exact h1 (by unfold mq_hd; rw [decide_eq_true a, decide_eq_true b]; rfl)
  · exact h0 (by unfold mq_hd; rw [decide_eq_false b, Bool.and_false])
  · exact h0 (by unfold mq_hd; rw [decide_eq_false a, Bool.false_and])
theorem xk_apply {post : Int32 → Prop} {a s : Nat} (ha : a < 6) (hs : s < 32) (K : post (nI (mq_ch ef a s))) : wpX_apply post (xpr, xsz, xkn, xsw, xsl, xsc, cn, ef, tk, dm, (mq_fs st), (mq_ss st), li, wc, pl, pc, kw, sa, pcs) (nI a) (nI s) := by
  have i := vp_in_nI (N := 6) ha (by decide)
  refine And.intro i (fun x ex => And.intro i (fun y ey => ?_))
  subst ex ey
  rw [nI_clamp (by omega), ← (mq_ch_e hs).1] at *
  exact K
theorem xk_has {post : Int32 → Prop} {m : Nat} (B : mq_B xpr th) (hm : m < 8) (h1 : ¬ th m = 0 → post 1) (h0 : th m = 0 → post 0) : wpX_has post (xpr, xsz, xkn, xsw, xsl, xsc, cn, ef, tk, dm, (mq_fs st), (mq_ss st), li, wc, pl, pc, kw, sa, pcs) (nI m) := by
  refine pk_lt m 0 (fun h => by omega) (fun _ => pk_le 8 m (fun h => by omega) (fun _ => ?_))
  exact br_c (fun z => h0 ((mq_B_has B hm).mp z)) (fun z => h1 (fun q => z ((mq_B_has B hm).mpr q)))
def mq_cl (t s e : Nat) : Nat := (t * 32 + s) * 32 + e
theorem mq_cl_lt {t s e : Nat} (ht : t < 4) (hs : s < 32) (he : e < 32) : mq_cl t s e < 4096 := by unfold mq_cl; omega
theorem mq_cl_ne {t s e t' s' e' : Nat} (hs : s < 32) (he : e < 32) (hs' : s' < 32) (he' : e' < 32) (h : ¬ (t' = t ∧ s' = s ∧ e' = e)) : mq_cl t' s' e' ≠ mq_cl t s e := by unfold mq_cl; omega
theorem xk_cell {post : Int32 → Prop} {t s e : Nat} (K : post (nI (mq_cl t s e))) : wpX_cell post (nI t) (nI s) (nI e) := by
  show post ((((nI t * nI 32) + nI s) * nI 32) + nI e)
  rw [pk_mul, nI_add, pk_mul, nI_add]
  exact K
theorem xk_look {post : SX → Prop} {v s e : Nat} (hv : v < 12) (h7 : v ≠ 7) (hs : s < 32) (he : e < 32)
    (hT : 8 ≤ v → mp_rp (mp_pe ((mq_E cn ef th tk dm st) v s) e) (wc (mq_cl (v - 8) s e)) (pl (mq_cl (v - 8) s e)) (pc (mq_cl (v - 8) s e)))
    (K : ∀ w l c, mp_rw (mp_pe ((mq_E cn ef th tk dm st) v s) e) w l c → post (xpr, xsz, xkn, w, l, c, cn, ef, tk, dm, (mq_fs st), (mq_ss st), li, wc, pl, pc, kw, sa, pcs)) : wpX_lookAtStep post (xpr, xsz, xkn, xsw, xsl, xsc, cn, ef, tk, dm, (mq_fs st), (mq_ss st), li, wc, pl, pc, kw, sa, pcs) (nI v) (nI s) (nI e) := by
  refine pk_lt v 8 (fun h => ?_) (fun h => ?_)
  · have eE : (mq_E cn ef th tk dm st) v s = mp_act (mq_hc cn) (mq_ch ef) v s := mp_fix0 h s
    rw [eE] at K
    unfold mp_act at K
    refine pk_eq v 0 (fun z => ?_) (fun z => ?_)
    · rw [if_pos z] at K
      refine pk_eq s e (fun q => K 1 0 0 ?_) (fun q => K 0 0 0 ?_)
      · rw [mp_pe_cons, if_pos q]
        exact ⟨rfl, fun _ => ⟨0, 0, rfl, rfl, mp_bs_one []⟩⟩
      · rw [mp_pe_cons, if_neg q]
        exact ⟨rfl, fun y => absurd rfl y⟩
    · obtain ⟨a, rfl⟩ : ∃ a, v = a + 1 := ⟨v - 1, by omega⟩
      rw [if_neg z, show a + 1 - 1 = a from by omega] at K
      rw [nI_pred, nI_clamp (show a < 2 ^ 31 from by omega)]
      have nil : mp_rw (mp_pe [] e) 0 99 0 := ⟨rfl, fun y => absurd rfl y⟩
      refine And.intro (vp_in_nI (by omega) (by decide)) (xk_holds (fun o => ?_) (fun o => ?_))
      · rw [if_pos (show mq_hc cn a s = true from o)] at K
        refine br_f (by decide) (xk_apply (by omega) hs ?_)
        refine pk_eq (mq_ch ef a s) e (fun q => ?_) (fun q => ?_) (hx := rfl) (hy := rfl) (ha := by have := (mq_ch_e (ef := ef) (a := a) hs).2; omega)
        · refine nm_r (nI_l (show a < 2 ^ 31 from by omega)) (K 1 1 (lN a) ?_)
          rw [mp_pe_cons, if_pos q]
          refine ⟨rfl, fun _ => ⟨1, a, rfl, rfl, ?_⟩⟩
          have := mp_bs_one [a]
          rw [show mp_code [a] = a from by show a * 6 ^ 0 + 0 = a; omega] at this
          exact this
        · refine K 0 99 0 ?_
          rw [mp_pe_cons, if_neg q]
          exact nil
      · rw [if_neg (show ¬ mq_hc cn a s = true from by rw [show mq_hc cn a s = false from o]; decide)] at K
        exact br_t rfl (K 0 99 0 nil)
  · obtain ⟨t, rfl⟩ : ∃ t, v = 8 + t := ⟨v - 8, by omega⟩
    have r := hT h
    rw [show 8 + t - 8 = t from by omega] at r
    have e8 : nI (8 + t) - 8 = nI t := by
      show nI (8 + t) - nI 8 = nI t
      rw [pk_sub (by omega)]
      exact congrArg nI (by omega)
    rw [e8]
    have i := mq_cl_lt (show t < 4 from by omega) hs he
    have iv : vp_in (nI (mq_cl t s e)) 4096 := vp_in_nI i (by decide)
    refine xk_cell (And.intro iv (fun x ex => And.intro iv (fun y ey => And.intro iv (fun z ez => ?_))))
    subst ex ey ez
    rw [nI_clamp (by omega)]
    exact K _ _ _ r.1
theorem xk_shift0 {post : Int64 → Prop} {l : Nat} (hl : l < 2 ^ 31) : ∀ d i n c, i + d = l → d < n → post (lN (c * 6 ^ d)) → wX_shifted_5 post (nI l) n (lN c) (nI i) := by
  intro d
  induction d with
  | zero =>
    intro i n c h1 h2 K
    obtain ⟨n, rfl⟩ : ∃ k, n = k + 1 := ⟨n - 1, by omega⟩
    refine pk_le l i (fun _ => ?_) (fun _ => by omega)
    rw [Nat.pow_zero, Nat.mul_one] at K
    exact K
  | succ d ih =>
    intro i n c h1 h2 K
    obtain ⟨n, rfl⟩ : ∃ k, n = k + 1 := ⟨n - 1, by omega⟩
    refine pk_le l i (fun _ => by omega) (fun _ => nm_r (lN_mul c 6) (nm_r (nI_1 i) (ih (i + 1) n (c * 6) (by omega) (by omega) ?_)))
    rw [Nat.mul_assoc, ← Nat.pow_succ']
    exact K
theorem xk_shift {post : Int64 → Prop} {l c : Nat} (hl : l < 2 ^ 31) (K : post (lN (c * 6 ^ l))) : wpX_shifted post (lN c) (nI l) :=
  ⟨l + 1, xk_shift0 hl l 0 (l + 1) c (by omega) (by omega) K⟩
def mq_T (wc pl : Nat → Int32) (pc : Nat → Int64) (M : Nat → Nat → Nat → List (List Nat)) : Prop := ∀ t s e, t < 4 → s < 32 → e < 32 → mp_rp (M t s e) (wc (mq_cl t s e)) (pl (mq_cl t s e)) (pc (mq_cl t s e)) ∧ mp_wb (M t s e)
theorem mq_T_congr {M M' : Nat → Nat → Nat → List (List Nat)} (h : mq_T wc pl pc M) (e : ∀ a b c, a < 4 → b < 32 → c < 32 → M' a b c = M a b c) : mq_T wc pl pc M' := by
  intro t s x ht hs hx
  rw [e t s x ht hs hx]
  exact h t s x ht hs hx
theorem mq_T_perm {M M' : Nat → Nat → Nat → List (List Nat)} (h : mq_T wc pl pc M) (e : ∀ a b c, a < 4 → b < 32 → c < 32 → List.Perm (M a b c) (M' a b c)) : mq_T wc pl pc M' := by
  intro t s x ht hs hx
  have := h t s x ht hs hx
  exact ⟨mp_rp_perm (e t s x ht hs hx) this.1, mp_wb_perm (e t s x ht hs hx) this.2⟩
/-- the cells of t and s whose end is below k have got X -/
def mq_ad (M : Nat → Nat → Nat → List (List Nat)) (t s k : Nat) (X : Nat → List (List Nat)) : Nat → Nat → Nat → List (List Nat) := fun a b c => if a = t ∧ b = s ∧ c < k then M a b c ++ X c else M a b c
theorem mq_ad_at {M : Nat → Nat → Nat → List (List Nat)} {t s k : Nat} {X : Nat → List (List Nat)} {c : Nat} (h : c < k) : mq_ad M t s k X t s c = M t s c ++ X c := if_pos ⟨rfl, rfl, h⟩
theorem mq_ad_no {M : Nat → Nat → Nat → List (List Nat)} {t s k : Nat} {X : Nat → List (List Nat)} {a b c : Nat} (h : ¬ (a = t ∧ b = s ∧ c < k)) : mq_ad M t s k X a b c = M a b c := if_neg h
/-- a cell whose list grows -/
theorem mq_T_upd {M M' : Nat → Nat → Nat → List (List Nat)} {t s e : Nat} (ht : t < 4) (hs : s < 32) (he : e < 32) (h : mq_T wc pl pc M) {w l : Int32} {c : Int64} (hn : mp_rp (M' t s e) w l c ∧ mp_wb (M' t s e)) (ho : ∀ a b d, ¬ (a = t ∧ b = s ∧ d = e) → M' a b d = M a b d) :
    mq_T (upd wc (mq_cl t s e) w) (upd pl (mq_cl t s e) l) (vp_updL pc (mq_cl t s e) c) M' := by
  intro a b d ha hb hd
  by_cases q : a = t ∧ b = s ∧ d = e
  · obtain ⟨rfl, rfl, rfl⟩ := q
    rw [pk_us, pk_us, pk_uLs]
    exact hn
  · have n := mq_cl_ne hs he hb hd q
    rw [pk_un n, pk_un n, pk_uLn n, ho a b d q]
    exact h a b d ha hb hd
theorem mq_T_upd1 {M M' : Nat → Nat → Nat → List (List Nat)} {t s e : Nat} (ht : t < 4) (hs : s < 32) (he : e < 32) (h : mq_T wc pl pc M) {w : Int32} (hn : mp_rp (M' t s e) w (pl (mq_cl t s e)) (pc (mq_cl t s e)) ∧ mp_wb (M' t s e)) (ho : ∀ a b d, ¬ (a = t ∧ b = s ∧ d = e) → M' a b d = M a b d) :
    mq_T (upd wc (mq_cl t s e) w) pl pc M' := by
  intro a b d ha hb hd
  by_cases q : a = t ∧ b = s ∧ d = e
  · obtain ⟨rfl, rfl, rfl⟩ := q
    rw [pk_us]
    exact hn
  · have n := mq_cl_ne hs he hb hd q
    rw [pk_un n, ho a b d q]
    exact h a b d ha hb hd
end
end
section
/-! the component's walk: one method from one state over one middle state -/
section
variable {xpr xsz xkn xsw xsl : Int32} {xsc : Int64} {cn ef th tk dm st li wc pl kw sa pcs : Nat → Int32} {pc : Nat → Int64}
theorem mq_E_len2 (w : mq_W th tk st) {v : Nat} (hv : v < 12) (s : Nat) : ((mq_E cn ef th tk dm st) v s).length < 33554432 := by
  by_cases h : v < 8
  · rw [show (mq_E cn ef th tk dm st) v s = mp_act (mq_hc cn) (mq_ch ef) v s from mp_fix0 h s]
    exact Nat.lt_of_le_of_lt (mp_act_len v s) (by decide)
  · obtain ⟨t, rfl⟩ : ∃ t, v = 8 + t := ⟨v - 8, by omega⟩
    exact mq_E_len w (by omega) s
theorem mq_pe_len2 (w : mq_W th tk st) {v : Nat} (hv : v < 12) (s e : Nat) : (mp_pe ((mq_E cn ef th tk dm st) v s) e).length < 33554432 := Nat.lt_of_le_of_lt (mp_pe_len _ e) (mq_E_len2 w hv s)
theorem xk_158 {post : SX → Prop} {J : Int32 → Int32 → Int32 → Int32 → Int32 → Int32 → Int64 → (Nat → Int32) → (Nat → Int32) → (Nat → Int32) → (Nat → Int32) → (Nat → Int32) → (Nat → Int32) → (Nat → Int32) → (Nat → Int32) → (Nat → Int32) → (Nat → Int64) → (Nat → Int32) → (Nat → Int32) → (Nat → Int32) → Prop}
    {x1 x2 x3 x4 x5 : Int32} {x6 : Int64} {j i l c : Nat} (hi : i < 4096) (hl : l ≤ 16)
    (K : J (nI (j + 1)) xpr xsz xkn xsw xsl xsc cn ef tk dm (mq_fs st) (mq_ss st) li wc (upd pl i (nI l)) (vp_updL pc i (lN c)) kw sa pcs) : wX_through_158 post J x1 x2 x3 x4 x5 x6 (nI j) (nI i) (nI l) (lN c) xpr xsz xkn xsw xsl xsc cn ef tk dm (mq_fs st) (mq_ss st) li wc pl pc kw sa pcs := by
  have iv : vp_in (nI i) 4096 := vp_in_nI hi (by decide)
  have ei : (nI i).toNatClampNeg = i := nI_clamp (by omega)
  have eb : vp_nar .byte (nI l).toInt8.toInt32 = nI l := mq_nb (by omega)
  refine And.intro iv (nm_r (e' := upd pl i (nI l)) (by rw [ei, eb]) (And.intro iv (nm_r (e' := vp_updL pc i (lN c)) (by rw [ei]) (nm_r (nI_1 j) K))))
theorem xk_thr0 {post : SX → Prop} {m t s mid a b : Nat} {A : List (List Nat)} {M : Nat → Nat → Nat → List (List Nat)}
    (w : mq_W th tk st) (hm : m < 8) (ht : t < 4) (hs : s < 32) (hd : mid < 32) (etk : tk m = nI t) (e2 : mq_ss st m = nI (mq_s2 st m)) (sk : mp_sk t (mq_s2 st m))
    (hA : A ≠ []) (lA : A.length < 33554432) (bA : mp_bs A a b)
    (hM : ∀ a b c, t < a → a < 4 → b < 32 → c < 32 → M a b c = mp_pe ((mq_E cn ef th tk dm st) (8 + a) b) c)
    (hX : ∀ e, e < 32 → mp_wb (mp_pr A (mp_pe ((mq_E cn ef th tk dm st) (mq_s2 st m) mid) e)))
    (K : ∀ xsw xsl xsc wc pl pc, mq_T wc pl pc (mq_ad M t s 32 (fun e => mp_pr A (mp_pe ((mq_E cn ef th tk dm st) (mq_s2 st m) mid) e))) → post (xpr, xsz, xkn, xsw, xsl, xsc, cn, ef, tk, dm, (mq_fs st), (mq_ss st), li, wc, pl, pc, kw, sa, pcs)) :
    ∀ d j n xsw xsl xsc wc pl pc, j + d = 32 → d < n → mq_T wc pl pc (mq_ad M t s j (fun e => mp_pr A (mp_pe ((mq_E cn ef th tk dm st) (mq_s2 st m) mid) e))) →
      wX_through_33 post (nI m) (nI s) (nI mid) (nI A.length) (nI a) (lN b) n (nI j) xpr xsz xkn xsw xsl xsc cn ef tk dm (mq_fs st) (mq_ss st) li wc pl pc kw sa pcs := by
  intro d
  induction d with
  | zero =>
    intro j n xsw xsl xsc wc pl pc h1 h2 T
    obtain ⟨n, rfl⟩ : ∃ k, n = k + 1 := ⟨n - 1, by omega⟩
    have : j = 32 := by omega
    subst this
    exact br_t (nI_le (a := 32) (b := 32) (by omega) (by omega)) (K _ _ _ _ _ _ T)
  | succ d ih =>
    intro j n xsw xsl xsc wc pl pc h1 h2 T
    obtain ⟨n, rfl⟩ : ∃ k, n = k + 1 := ⟨n - 1, by omega⟩
    have hj : j < 32 := by omega
    have pA : 0 < A.length := List.length_pos_iff.mpr hA
    have iv : vp_in (nI m) 8 := vp_in_nI hm (by decide)
    have em : (nI m).toNatClampNeg = m := nI_clamp (by omega)
    have sk' := sk
    unfold mp_sk at sk'
    refine pk_le 32 j (fun h => by omega) (fun _ => pk_le A.length 0 (fun h => by omega) (fun _ => And.intro iv ?_))
    rw [em, e2]
    refine xk_look (th := th) (by omega) (by omega) hd hj (fun h8 => ?_) (fun ww ll cc r => ?_)
    · have := (T (mq_s2 st m - 8) mid j (by omega) hd hj).1
      rw [mq_ad_no (by omega), hM _ _ _ (by omega) (by omega) hd hj, show 8 + (mq_s2 st m - 8) = mq_s2 st m from by omega] at this
      exact this
    · obtain ⟨r1, r2⟩ := r
      subst r1
      have lB := mq_pe_len2 (cn := cn) (ef := ef) (dm := dm) w (show mq_s2 st m < 12 from by omega) mid j
      refine pk_le (mp_pe ((mq_E cn ef th tk dm st) (mq_s2 st m) mid) j).length 0 (fun h => ?_) (fun h => And.intro iv ?_)
      · have z : mp_pe ((mq_E cn ef th tk dm st) (mq_s2 st m) mid) j = [] := List.length_eq_zero_iff.mp (by omega)
        refine nm_r (nI_1 j) (ih (j + 1) n _ _ _ _ _ _ (by omega) (by omega) (mq_T_congr T (fun a' b' c' _ _ _ => ?_)))
        by_cases q : a' = t ∧ b' = s ∧ c' < j + 1
        · obtain ⟨rfl, rfl, q3⟩ := q
          rw [mq_ad_at q3]
          by_cases q4 : c' < j
          · rw [mq_ad_at q4]
          · have : c' = j := by omega
            subst this
            rw [mq_ad_no (by omega), z, mp_pr_nil, List.append_nil]
        · rw [mq_ad_no q, mq_ad_no (by omega)]
      · have ne : mp_pe ((mq_E cn ef th tk dm st) (mq_s2 st m) mid) j ≠ [] := fun z => by rw [z] at h; exact absurd h (by decide)
        obtain ⟨a', b', rfl, rfl, bB⟩ := r2 ne
        rw [etk]
        have hi := mq_cl_lt ht hs hj
        have iv' : vp_in (nI (mq_cl t s j)) 4096 := vp_in_nI hi (by decide)
        have ei : (nI (mq_cl t s j)).toNatClampNeg = mq_cl t s j := nI_clamp (by omega)
        have bX := mp_bs_pr bA bB
        obtain ⟨l16, c43⟩ := mp_bs_bd (hX j hj) bX
        have wX := hX j hj
        have nX : mp_pr A (mp_pe ((mq_E cn ef th tk dm st) (mq_s2 st m) mid) j) ≠ [] := mp_bs_ne bX
        obtain ⟨⟨⟨n1, n2⟩, n3⟩, wN⟩ := T t s j ht hs hj
        rw [mq_ad_no (by omega)] at n1 n2 n3 wN
        have nat : ∀ a' b' d', ¬ (a' = t ∧ b' = s ∧ d' = j) → mq_ad M t s (j + 1) (fun e => mp_pr A (mp_pe ((mq_E cn ef th tk dm st) (mq_s2 st m) mid) e)) a' b' d' = mq_ad M t s j (fun e => mp_pr A (mp_pe ((mq_E cn ef th tk dm st) (mq_s2 st m) mid) e)) a' b' d' := by
          intro a' b' d' q
          by_cases q2 : a' = t ∧ b' = s ∧ d' < j
          · obtain ⟨rfl, rfl, q3⟩ := q2
            rw [mq_ad_at (show d' < j + 1 from by omega), mq_ad_at q3]
          · rw [mq_ad_no q2, mq_ad_no (by omega)]
        refine xk_cell (And.intro iv' (And.intro iv' (nm_r (e' := upd wc (mq_cl t s j) (nI (M t s j ++ mp_pr A (mp_pe ((mq_E cn ef th tk dm st) (mq_s2 st m) mid) j)).length)) ?_ (nm_r (nI_add a a') (xk_shift (by omega) (nm_r (lN_add _ _) (And.intro iv' ?_)))))))
        · rw [ei, n1, pk_mul, nI_add, List.length_append, mp_pr_len]
        · rw [ei]
          by_cases z : M t s j = []
          · have p99 := (n3 z).1
            refine br_t (by rw [p99]; exact nI_lt (b := 99) (by omega) (by decide)) (xk_158 hi l16 (ih (j + 1) n _ _ _ _ _ _ (by omega) (by omega) (mq_T_upd ht hs hj T ?_ nat)))
            rw [mq_ad_at (Nat.lt_succ_self j)]
            refine ⟨⟨⟨rfl, fun _ => ⟨_, _, rfl, rfl, ?_⟩⟩, fun q => absurd (List.append_eq_nil_iff.mp q).2 nX⟩, mp_wb_app wN wX⟩
            rw [z, List.nil_append]
            exact bX
          · obtain ⟨aN, bN, f1, f2, bsN⟩ := n2 z
            obtain ⟨lN16, cN43⟩ := mp_bs_bd wN bsN
            have up : mp_kl (a + a') (b * 6 ^ a' + b') aN bN → mq_T (upd wc (mq_cl t s j) (nI (M t s j ++ mp_pr A (mp_pe ((mq_E cn ef th tk dm st) (mq_s2 st m) mid) j)).length)) (upd pl (mq_cl t s j) (nI (a + a'))) (vp_updL pc (mq_cl t s j) (lN (b * 6 ^ a' + b'))) (mq_ad M t s (j + 1) (fun e => mp_pr A (mp_pe ((mq_E cn ef th tk dm st) (mq_s2 st m) mid) e))) := by
              intro kl
              refine mq_T_upd ht hs hj T ?_ nat
              rw [mq_ad_at (Nat.lt_succ_self j)]
              exact ⟨⟨⟨rfl, fun _ => ⟨_, _, rfl, rfl, mp_bs_r bsN bX kl⟩⟩, fun q => absurd (List.append_eq_nil_iff.mp q).2 nX⟩, mp_wb_app wN wX⟩
            have keep : mp_kl aN bN (a + a') (b * 6 ^ a' + b') → mq_T (upd wc (mq_cl t s j) (nI (M t s j ++ mp_pr A (mp_pe ((mq_E cn ef th tk dm st) (mq_s2 st m) mid) j)).length)) pl pc (mq_ad M t s (j + 1) (fun e => mp_pr A (mp_pe ((mq_E cn ef th tk dm st) (mq_s2 st m) mid) e))) := by
              intro kl
              refine mq_T_upd1 ht hs hj T ?_ nat
              rw [mq_ad_at (Nat.lt_succ_self j)]
              exact ⟨⟨⟨rfl, fun _ => ⟨_, _, f1, f2, mp_bs_l bsN bX kl⟩⟩, fun q => absurd (List.append_eq_nil_iff.mp q).2 nX⟩, mp_wb_app wN wX⟩
            refine pk_lt (a + a') aN (fun q => ?_) (fun q => And.intro iv' (pk_eq (a + a') aN (fun q2 => And.intro iv' (ek_if (d := bN ≤ b * 6 ^ a' + b') (by rw [f2]; exact pk_lLE (by omega) (by omega)) (fun q3 => ?_) (fun q3 => ?_))) (fun q2 => ?_) (hx := rfl) (hy := f1))) (hx := rfl) (hy := f1)
            · exact xk_158 hi l16 (ih (j + 1) n _ _ _ _ _ _ (by omega) (by omega) (up (Or.inl q)))
            · exact nm_r (nI_1 j) (ih (j + 1) n _ _ _ _ _ _ (by omega) (by omega) (keep (Or.inr ⟨q2.symm, q3⟩)))
            · exact xk_158 hi l16 (ih (j + 1) n _ _ _ _ _ _ (by omega) (by omega) (up (Or.inr ⟨q2, by omega⟩)))
            · exact nm_r (nI_1 j) (ih (j + 1) n _ _ _ _ _ _ (by omega) (by omega) (keep (Or.inl (by omega))))
end
end
section
/-! the component's walk: the whole table -/
section
variable {xpr xsz xkn xsw xsl : Int32} {xsc : Int64} {cn ef th tk dm st li wc pl kw sa pcs : Nat → Int32} {pc : Nat → Int64}
theorem mq_pr_wb (w : mq_W th tk st) {m t s mid : Nat} (hm : m < 8) (ht : t < 4) (hs : s < 32) (o : mq_ok th tk dm t m s = true) (e : Nat) : mp_wb (mp_pr (mp_pe ((mq_E cn ef th tk dm st) (mq_s1 st m) s) mid) (mp_pe ((mq_E cn ef th tk dm st) (mq_s2 st m) mid) e)) := by
  intro p hp
  obtain ⟨x, hx, hp⟩ := List.mem_flatMap.mp hp
  obtain ⟨y, hy, rfl⟩ := List.mem_map.mp hp
  have hx := mp_pe_mem.mp hx
  have hy := mp_pe_mem.mp hy
  have h : (x ++ y, e) ∈ (mq_E cn ef th tk dm st) (8 + t) s := by
    rw [show (mq_E cn ef th tk dm st) (8 + t) s = _ from mp_fix (mq_wf w) ht s]
    refine List.mem_flatMap.mpr ⟨m, List.mem_range.mpr hm, ?_⟩
    rw [if_pos o]
    exact List.mem_flatMap.mpr ⟨_, hx, List.mem_map.mpr ⟨_, hy, rfl⟩⟩
  exact mq_E_wb w (by omega) (by omega) hs e _ (mp_pe_mem.mpr h)
theorem xk_thr {post : SX → Prop} {m t s mid : Nat} {M : Nat → Nat → Nat → List (List Nat)}
    (w : mq_W th tk st) (hm : m < 8) (ht : t < 4) (hs : s < 32) (hd : mid < 32) (o : mq_ok th tk dm t m s = true)
    (hM : ∀ a b c, t < a → a < 4 → b < 32 → c < 32 → M a b c = mp_pe ((mq_E cn ef th tk dm st) (8 + a) b) c) (T : mq_T wc pl pc M)
    (K : ∀ xsw xsl xsc wc pl pc, mq_T wc pl pc (mq_ad M t s 32 (fun e => mp_pr (mp_pe ((mq_E cn ef th tk dm st) (mq_s1 st m) s) mid) (mp_pe ((mq_E cn ef th tk dm st) (mq_s2 st m) mid) e))) → post (xpr, xsz, xkn, xsw, xsl, xsc, cn, ef, tk, dm, (mq_fs st), (mq_ss st), li, wc, pl, pc, kw, sa, pcs)) :
    wpX_through post (xpr, xsz, xkn, xsw, xsl, xsc, cn, ef, tk, dm, (mq_fs st), (mq_ss st), li, wc, pl, pc, kw, sa, pcs) (nI m) (nI s) (nI mid) := by
  obtain ⟨o1, o2, _⟩ := mq_ok_iff.mp o
  obtain ⟨t', ht', et, k1, k2, e1, e2⟩ := w m hm o1
  have tt : t' = t := (nI_eq (by omega) (by omega)).mp (et.symm.trans o2)
  subst tt
  have iv : vp_in (nI m) 8 := vp_in_nI hm (by decide)
  have em : (nI m).toNatClampNeg = m := nI_clamp (by omega)
  have k1' := k1
  unfold mp_sk at k1'
  refine And.intro iv ?_
  rw [em, e1]
  refine xk_look (th := th) (by omega) (by omega) hs hd (fun h8 => ?_) (fun ww ll cc r => ?_)
  · have := (T (mq_s1 st m - 8) s mid (by omega) hs hd).1
    rw [hM _ _ _ (by omega) (by omega) hs hd, show 8 + (mq_s1 st m - 8) = mq_s1 st m from by omega] at this
    exact this
  · obtain ⟨r1, r2⟩ := r
    subst r1
    by_cases z : mp_pe ((mq_E cn ef th tk dm st) (mq_s1 st m) s) mid = []
    · refine ⟨1, br_f (nI_ge (a := 0) (b := 32) (by decide) (by decide)) (br_t ?_ (K _ _ _ _ _ _ (mq_T_congr T (fun a b c _ _ _ => ?_))))⟩
      · rw [z]; decide
      · rw [z]
        by_cases q : a = t' ∧ b = s ∧ c < 32
        · obtain ⟨rfl, rfl, q3⟩ := q
          rw [mq_ad_at q3]
          exact List.append_nil _
        · exact mq_ad_no q
    · obtain ⟨a, b, rfl, rfl, bA⟩ := r2 z
      exact ⟨33, xk_thr0 w hm ht hs hd et e2 k2 z (mq_pe_len2 w (by omega) s mid) bA hM (fun e _ => mq_pr_wb w hm ht hs o e) K 32 0 33 _ _ _ _ _ _ (by omega) (by omega) (mq_T_congr T (fun a b c _ _ _ => mq_ad_no (by omega)))⟩
theorem mp_mm_succ (E : Nat → Nat → List (List Nat × Nat)) (s1 s2 : Nat → Nat) (m s e k : Nat) : mp_mm E s1 s2 m s e (k + 1) = mp_mm E s1 s2 m s e k ++ mp_pr (mp_pe (E (s1 m) s) k) (mp_pe (E (s2 m) k) e) := by
  unfold mp_mm
  rw [List.range_succ, List.flatMap_append, List.flatMap_singleton]
theorem xk_use1 {post : SX → Prop} {J : Int32 → Int32 → Int32 → Int32 → Int32 → Int32 → Int64 → (Nat → Int32) → (Nat → Int32) → (Nat → Int32) → (Nat → Int32) → (Nat → Int32) → (Nat → Int32) → (Nat → Int32) → (Nat → Int32) → (Nat → Int32) → (Nat → Int64) → (Nat → Int32) → (Nat → Int32) → (Nat → Int32) → Prop}
    {m t s : Nat} {M : Nat → Nat → Nat → List (List Nat)}
    (w : mq_W th tk st) (hm : m < 8) (ht : t < 4) (hs : s < 32) (o : mq_ok th tk dm t m s = true)
    (hM : ∀ a b c, t < a → a < 4 → b < 32 → c < 32 → M a b c = mp_pe ((mq_E cn ef th tk dm st) (8 + a) b) c)
    (K : ∀ xsw xsl xsc wc pl pc, mq_T wc pl pc (mq_ad M t s 32 (fun e => mp_mm (mq_E cn ef th tk dm st) (mq_s1 st) (mq_s2 st) m s e 32)) → J (nI (s + 1)) xpr xsz xkn xsw xsl xsc cn ef tk dm (mq_fs st) (mq_ss st) li wc pl pc kw sa pcs) :
    ∀ d j n xsw xsl xsc wc pl pc, j + d = 32 → d < n → mq_T wc pl pc (mq_ad M t s 32 (fun e => mp_mm (mq_E cn ef th tk dm st) (mq_s1 st) (mq_s2 st) m s e j)) →
      wX_useMethod_10 post J (nI m) (nI s) n (nI j) xpr xsz xkn xsw xsl xsc cn ef tk dm (mq_fs st) (mq_ss st) li wc pl pc kw sa pcs := by
  intro d
  induction d with
  | zero =>
    intro j n xsw xsl xsc wc pl pc h1 h2 T
    obtain ⟨n, rfl⟩ : ∃ k, n = k + 1 := ⟨n - 1, by omega⟩
    have : j = 32 := by omega
    subst this
    exact br_t (nI_le (a := 32) (b := 32) (by omega) (by omega)) (nm_r (nI_1 s) (K _ _ _ _ _ _ T))
  | succ d ih =>
    intro j n xsw xsl xsc wc pl pc h1 h2 T
    obtain ⟨n, rfl⟩ : ∃ k, n = k + 1 := ⟨n - 1, by omega⟩
    have iv : vp_in (nI m) 8 := vp_in_nI hm (by decide)
    have em : (nI m).toNatClampNeg = m := nI_clamp (by omega)
    have o3 := (mq_ok_iff.mp o).2.2
    refine pk_le 32 j (fun h => by omega) (fun _ => And.intro iv ?_)
    rw [em]
    refine xk_holds (fun _ => ?_) (fun z => ?_)
    · refine br_f (by decide) (xk_thr w hm ht hs (show j < 32 from by omega) o (M := mq_ad M t s 32 (fun e => mp_mm (mq_E cn ef th tk dm st) (mq_s1 st) (mq_s2 st) m s e j)) (fun a b c ha h4 hb hc => by rw [mq_ad_no (by omega)]; exact hM a b c ha h4 hb hc) T (fun _ _ _ _ _ _ T2 => nm_r (nI_1 j) (ih (j + 1) n _ _ _ _ _ _ (by omega) (by omega) (mq_T_congr T2 (fun a b c _ _ _ => ?_)))))
      by_cases q : a = t ∧ b = s ∧ c < 32
      · obtain ⟨rfl, rfl, q3⟩ := q
        rw [mq_ad_at q3, mq_ad_at q3, mq_ad_at q3, mp_mm_succ, List.append_assoc]
      · rw [mq_ad_no q, mq_ad_no q, mq_ad_no q]
    · rw [o3] at z; exact nomatch z
theorem xk_use0 {post : SX → Prop} {J : Int32 → Int32 → Int32 → Int32 → Int32 → Int32 → Int64 → (Nat → Int32) → (Nat → Int32) → (Nat → Int32) → (Nat → Int32) → (Nat → Int32) → (Nat → Int32) → (Nat → Int32) → (Nat → Int32) → (Nat → Int32) → (Nat → Int64) → (Nat → Int32) → (Nat → Int32) → (Nat → Int32) → Prop}
    {m s : Nat} (hm : m < 8) (o : mq_hd (dm m) (nI s) = false) (K : J (nI (s + 1)) xpr xsz xkn xsw xsl xsc cn ef tk dm (mq_fs st) (mq_ss st) li wc pl pc kw sa pcs) :
    ∀ d j n, j + d = 32 → d < n → wX_useMethod_10 post J (nI m) (nI s) n (nI j) xpr xsz xkn xsw xsl xsc cn ef tk dm (mq_fs st) (mq_ss st) li wc pl pc kw sa pcs := by
  intro d
  induction d with
  | zero =>
    intro j n h1 h2
    obtain ⟨n, rfl⟩ : ∃ k, n = k + 1 := ⟨n - 1, by omega⟩
    have : j = 32 := by omega
    subst this
    exact br_t (nI_le (a := 32) (b := 32) (by omega) (by omega)) (nm_r (nI_1 s) K)
  | succ d ih =>
    intro j n h1 h2
    obtain ⟨n, rfl⟩ : ∃ k, n = k + 1 := ⟨n - 1, by omega⟩
    have iv : vp_in (nI m) 8 := vp_in_nI hm (by decide)
    have em : (nI m).toNatClampNeg = m := nI_clamp (by omega)
    refine pk_le 32 j (fun h => by omega) (fun _ => And.intro iv ?_)
    rw [em]
    refine xk_holds (fun z => ?_) (fun _ => br_t rfl (nm_r (nI_1 j) (ih (j + 1) n (by omega) (by omega))))
    rw [o] at z; exact nomatch z
/-- the cells of t whose state is below j have got what method m brings -/
def mq_am (E : Nat → Nat → List (List Nat × Nat)) (ok : Nat → Nat → Nat → Bool) (s1 s2 : Nat → Nat) (M : Nat → Nat → Nat → List (List Nat)) (t m j : Nat) : Nat → Nat → Nat → List (List Nat) := fun a b c => if a = t ∧ b < j ∧ ok t m b = true then M a b c ++ mp_mm E s1 s2 m b c 32 else M a b c
theorem xk_use {post : SX → Prop} {m t : Nat} {M : Nat → Nat → Nat → List (List Nat)}
    (w : mq_W th tk st) (hm : m < 8) (ht : t < 4) (o1 : ¬ th m = 0) (o2 : tk m = nI t)
    (hM : ∀ a b c, t < a → a < 4 → b < 32 → c < 32 → M a b c = mp_pe ((mq_E cn ef th tk dm st) (8 + a) b) c)
    (K : ∀ xsw xsl xsc wc pl pc, mq_T wc pl pc (mq_am (mq_E cn ef th tk dm st) (mq_ok th tk dm) (mq_s1 st) (mq_s2 st) M t m 32) → post (xpr, xsz, xkn, xsw, xsl, xsc, cn, ef, tk, dm, (mq_fs st), (mq_ss st), li, wc, pl, pc, kw, sa, pcs)) :
    ∀ d j n xsw xsl xsc wc pl pc, j + d = 32 → d < n → mq_T wc pl pc (mq_am (mq_E cn ef th tk dm st) (mq_ok th tk dm) (mq_s1 st) (mq_s2 st) M t m j) →
      wX_useMethod_2 post (nI m) n (nI j) xpr xsz xkn xsw xsl xsc cn ef tk dm (mq_fs st) (mq_ss st) li wc pl pc kw sa pcs := by
  intro d
  induction d with
  | zero =>
    intro j n xsw xsl xsc wc pl pc h1 h2 T
    obtain ⟨n, rfl⟩ : ∃ k, n = k + 1 := ⟨n - 1, by omega⟩
    have : j = 32 := by omega
    subst this
    exact br_t (nI_le (a := 32) (b := 32) (by omega) (by omega)) (K _ _ _ _ _ _ T)
  | succ d ih =>
    intro j n xsw xsl xsc wc pl pc h1 h2 T
    obtain ⟨n, rfl⟩ : ∃ k, n = k + 1 := ⟨n - 1, by omega⟩
    refine pk_le 32 j (fun h => by omega) (fun _ => ⟨33, ?_⟩)
    cases o3 : mq_hd (dm m) (nI j) with
    | true =>
      have o : mq_ok th tk dm t m j = true := mq_ok_iff.mpr ⟨o1, o2, o3⟩
      refine xk_use1 w hm ht (show j < 32 from by omega) o (M := mq_am (mq_E cn ef th tk dm st) (mq_ok th tk dm) (mq_s1 st) (mq_s2 st) M t m j) (fun a b c ha h4 hb hc => ?_) (fun _ _ _ _ _ _ T2 => ih (j + 1) n _ _ _ _ _ _ (by omega) (by omega) (mq_T_congr T2 (fun a b c ha hb hc => ?_))) 32 0 33 _ _ _ _ _ _ (by omega) (by omega) (mq_T_congr T (fun a b c ha hb hc => ?_))
      · show (if _ then _ else _) = _
        rw [if_neg (by omega)]
        exact hM a b c ha h4 hb hc
      · by_cases q : a = t ∧ b = j ∧ c < 32
        · obtain ⟨rfl, rfl, q3⟩ := q
          rw [mq_ad_at q3]
          show (if _ then _ else _) = (if _ then _ else _) ++ _
          rw [if_pos ⟨rfl, by omega, o⟩, if_neg (by omega)]
        · rw [mq_ad_no q]
          show (if _ then _ else _) = (if _ then _ else _)
          by_cases q2 : a = t ∧ b < j ∧ mq_ok th tk dm t m b = true
          · rw [if_pos q2, if_pos ⟨q2.1, by omega, q2.2.2⟩]
          · rw [if_neg q2, if_neg (fun z => q2 ⟨z.1, by have := z.1; have := z.2.1; omega, z.2.2⟩)]
      · by_cases q : a = t ∧ b = j ∧ c < 32
        · obtain ⟨rfl, rfl, q3⟩ := q
          rw [mq_ad_at q3]
          exact List.append_nil _
        · exact mq_ad_no q
    | false =>
      refine xk_use0 hm o3 (ih (j + 1) n _ _ _ _ _ _ (by omega) (by omega) (mq_T_congr T (fun a b c ha hb hc => ?_))) 32 0 33 (by omega) (by omega)
      show (if _ then _ else _) = (if _ then _ else _)
      by_cases q2 : a = t ∧ b < j ∧ mq_ok th tk dm t m b = true
      · rw [if_pos q2, if_pos ⟨q2.1, by omega, q2.2.2⟩]
      · rw [if_neg q2, if_neg (fun z => ?_)]
        obtain ⟨z1, z2, z3⟩ := z
        by_cases z4 : b = j
        · rw [z4] at z3
          have := (mq_ok_iff.mp z3).2.2
          rw [o3] at this
          exact nomatch this
        · exact q2 ⟨z1, by omega, z3⟩
/-- the cells of t have got the methods below j -/
def mq_at (E : Nat → Nat → List (List Nat × Nat)) (ok : Nat → Nat → Nat → Bool) (s1 s2 : Nat → Nat) (M : Nat → Nat → Nat → List (List Nat)) (t j : Nat) : Nat → Nat → Nat → List (List Nat) := fun a b c => if a = t then (List.range j).flatMap (fun m => if ok t m b = true then mp_mm E s1 s2 m b c 32 else []) else M a b c
theorem mq_at_skip {E : Nat → Nat → List (List Nat × Nat)} {ok : Nat → Nat → Nat → Bool} {s1 s2 : Nat → Nat} {M : Nat → Nat → Nat → List (List Nat)} {t j : Nat} (h : ∀ b, ¬ ok t j b = true) (a b c : Nat) : mq_at E ok s1 s2 M t (j + 1) a b c = mq_at E ok s1 s2 M t j a b c := by
  show (if _ then _ else _) = (if _ then _ else _)
  by_cases q : a = t
  · rw [if_pos q, if_pos q, List.range_succ, List.flatMap_append, List.flatMap_singleton, if_neg (h b), List.append_nil]
  · rw [if_neg q, if_neg q]
theorem mq_at_step {E : Nat → Nat → List (List Nat × Nat)} {ok : Nat → Nat → Nat → Bool} {s1 s2 : Nat → Nat} {M : Nat → Nat → Nat → List (List Nat)} {t j : Nat} {a b c : Nat} (hb : b < 32) : mq_at E ok s1 s2 M t (j + 1) a b c = mq_am E ok s1 s2 (mq_at E ok s1 s2 M t j) t j 32 a b c := by
  show (if _ then _ else _) = (if _ then (if _ then _ else _) ++ _ else (if _ then _ else _))
  by_cases q : a = t
  · rw [if_pos q, if_pos q, List.range_succ, List.flatMap_append, List.flatMap_singleton]
    by_cases o : ok t j b = true
    · rw [if_pos o, if_pos ⟨q, hb, o⟩]
    · rw [if_neg o, if_neg (fun z => o z.2.2), List.append_nil]
  · rw [if_neg q, if_neg q, if_neg (fun z => q z.1)]
theorem xk_m {post : SX → Prop} {J : Int32 → Int32 → Int32 → Int32 → Int32 → Int32 → Int64 → (Nat → Int32) → (Nat → Int32) → (Nat → Int32) → (Nat → Int32) → (Nat → Int32) → (Nat → Int32) → (Nat → Int32) → (Nat → Int32) → (Nat → Int32) → (Nat → Int64) → (Nat → Int32) → (Nat → Int32) → (Nat → Int32) → Prop}
    {t : Nat} {M : Nat → Nat → Nat → List (List Nat)} (w : mq_W th tk st) (B : mq_B xpr th) (ht : t < 4)
    (hM : ∀ a b c, t < a → a < 4 → b < 32 → c < 32 → M a b c = mp_pe ((mq_E cn ef th tk dm st) (8 + a) b) c)
    (K : ∀ xsw xsl xsc wc pl pc, mq_T wc pl pc (mq_at (mq_E cn ef th tk dm st) (mq_ok th tk dm) (mq_s1 st) (mq_s2 st) M t 8) → J (nI t + (-1)) xpr xsz xkn xsw xsl xsc cn ef tk dm (mq_fs st) (mq_ss st) li wc pl pc kw sa pcs) :
    ∀ d j n xsw xsl xsc wc pl pc, j + d = 8 → d < n → mq_T wc pl pc (mq_at (mq_E cn ef th tk dm st) (mq_ok th tk dm) (mq_s1 st) (mq_s2 st) M t j) →
      wX_learn_58 post J (nI t) n (nI j) xpr xsz xkn xsw xsl xsc cn ef tk dm (mq_fs st) (mq_ss st) li wc pl pc kw sa pcs := by
  intro d
  induction d with
  | zero =>
    intro j n xsw xsl xsc wc pl pc h1 h2 T
    obtain ⟨n, rfl⟩ : ∃ k, n = k + 1 := ⟨n - 1, by omega⟩
    have : j = 8 := by omega
    subst this
    exact br_t (nI_le (a := 8) (b := 8) (by omega) (by omega)) (nm_e (K _ _ _ _ _ _ T))
  | succ d ih =>
    intro j n xsw xsl xsc wc pl pc h1 h2 T
    obtain ⟨n, rfl⟩ : ∃ k, n = k + 1 := ⟨n - 1, by omega⟩
    have hj : j < 8 := by omega
    have iv : vp_in (nI j) 8 := vp_in_nI hj (by decide)
    have ej : (nI j).toNatClampNeg = j := nI_clamp (by omega)
    refine pk_le 8 j (fun h => by omega) (fun _ => xk_has B hj (fun o1 => br_f (by decide) (And.intro iv ?_)) (fun z => br_t rfl (nm_r (nI_1 j) (ih (j + 1) n _ _ _ _ _ _ (by omega) (by omega) (mq_T_congr T (fun a b c _ _ _ => mq_at_skip (fun b q => (mq_ok_iff.mp q).1 z) a b c))))))
    rw [ej]
    refine br_c (fun o2 => ?_) (fun o2 => nm_r (nI_1 j) (ih (j + 1) n _ _ _ _ _ _ (by omega) (by omega) (mq_T_congr T (fun a b c _ _ _ => mq_at_skip (fun b q => o2 (mq_ok_iff.mp q).2.1) a b c))))
    refine ⟨33, xk_use w hj ht o1 o2 (M := mq_at (mq_E cn ef th tk dm st) (mq_ok th tk dm) (mq_s1 st) (mq_s2 st) M t j) (fun a b c ha h4 hb hc => ?_) (fun _ _ _ _ _ _ T2 => nm_r (nI_1 j) (ih (j + 1) n _ _ _ _ _ _ (by omega) (by omega) (mq_T_congr T2 (fun a b c _ hb _ => mq_at_step hb)))) 32 0 33 _ _ _ _ _ _ (by omega) (by omega) (mq_T_congr T (fun a b c _ _ _ => ?_))⟩
    · show (if _ then _ else _) = _
      rw [if_neg (by omega)]
      exact hM a b c ha h4 hb hc
    · show (if _ then _ else _) = _
      rw [if_neg (by omega)]
def mq_F (E : Nat → Nat → List (List Nat × Nat)) (r : Nat) : Nat → Nat → Nat → List (List Nat) := fun a b c => if r ≤ a then mp_pe (E (8 + a) b) c else []
theorem xk_t {post : SX → Prop} (w : mq_W th tk st) (B : mq_B xpr th)
    (K : ∀ xsw xsl xsc wc pl pc, mq_T wc pl pc (mq_F (mq_E cn ef th tk dm st) 0) → post (xpr, xsz, xkn, xsw, xsl, xsc, cn, ef, tk, dm, (mq_fs st), (mq_ss st), li, wc, pl, pc, kw, sa, pcs)) :
    ∀ r n xsw xsl xsc wc pl pc, r ≤ 4 → r < n → mq_T wc pl pc (mq_F (mq_E cn ef th tk dm st) r) → wX_learn_52 post n (nI r + (-1)) xpr xsz xkn xsw xsl xsc cn ef tk dm (mq_fs st) (mq_ss st) li wc pl pc kw sa pcs := by
  intro r
  induction r with
  | zero =>
    intro n xsw xsl xsc wc pl pc _ h2 T
    obtain ⟨n, rfl⟩ : ∃ k, n = k + 1 := ⟨n - 1, by omega⟩
    exact br_t (by decide) (K _ _ _ _ _ _ T)
  | succ t ih =>
    intro n xsw xsl xsc wc pl pc h4 h2 T
    obtain ⟨n, rfl⟩ : ∃ k, n = k + 1 := ⟨n - 1, by omega⟩
    rw [pk_m1]
    refine pk_lt t 0 (fun h => by omega) (fun _ => ⟨9, ?_⟩)
    refine xk_m w B (show t < 4 from by omega) (M := mq_F (mq_E cn ef th tk dm st) (t + 1)) (fun a b c ha _ _ _ => if_pos (by omega)) (fun _ _ _ _ _ _ T2 => ih n _ _ _ _ _ _ (by omega) (by omega) (mq_T_perm T2 (fun a b c ha hb hc => ?_))) 8 0 9 _ _ _ _ _ _ (by omega) (by omega) (mq_T_congr T (fun a b c ha hb hc => ?_))
    · show List.Perm (if _ then _ else (if _ then _ else _)) (if _ then _ else _)
      by_cases q : a = t
      · rw [if_pos q, if_pos (show t ≤ a from by omega), q]
        exact List.Perm.symm (mp_cell (mq_wf w) mq_ch_lt (by omega) hb)
      · rw [if_neg q]
        by_cases q2 : t + 1 ≤ a
        · rw [if_pos q2, if_pos (by omega)]
        · rw [if_neg q2, if_neg (by omega)]
    · show (if _ then _ else (if _ then _ else _)) = (if _ then _ else _)
      by_cases q : a = t
      · rw [if_pos q, if_neg (by omega)]; rfl
      · rw [if_neg q]
theorem xk_clear {post : SX → Prop} (w : mq_W th tk st) (B : mq_B xpr th)
    (K : ∀ xsw xsl xsc wc pl pc, mq_T wc pl pc (mq_F (mq_E cn ef th tk dm st) 0) → post (xpr, xsz, xkn, xsw, xsl, xsc, cn, ef, tk, dm, (mq_fs st), (mq_ss st), li, wc, pl, pc, kw, sa, pcs)) :
    ∀ d j n wc pl pc, j + d = 4096 → d < n → (∀ i, i < j → wc i = 0 ∧ pl i = 99 ∧ pc i = 0) → wX_learn_15 post xpr xsz xkn xsw xsl xsc n (nI j) cn ef tk dm (mq_fs st) (mq_ss st) li wc pl pc kw sa pcs := by
  intro d
  induction d with
  | zero =>
    intro j n wc pl pc h1 h2 T
    obtain ⟨n, rfl⟩ : ∃ k, n = k + 1 := ⟨n - 1, by omega⟩
    have : j = 4096 := by omega
    subst this
    refine br_t (nI_le (a := 4096) (b := 4096) (by omega) (by omega)) ⟨5, ?_⟩
    refine xk_t w B K 4 5 _ _ _ _ _ _ (by omega) (by omega) (fun t s e ht hs he => ?_)
    obtain ⟨a, b, c⟩ := T (mq_cl t s e) (mq_cl_lt ht hs he)
    rw [a, b, c, show mq_F (mq_E cn ef th tk dm st) 4 t s e = [] from if_neg (by omega)]
    exact ⟨mp_rp_nil, fun p hp => nomatch hp⟩
  | succ d ih =>
    intro j n wc pl pc h1 h2 T
    obtain ⟨n, rfl⟩ : ∃ k, n = k + 1 := ⟨n - 1, by omega⟩
    have iv : vp_in (nI j) 4096 := vp_in_nI (by omega) (by decide)
    have ej : (nI j).toNatClampNeg = j := nI_clamp (by omega)
    refine pk_le 4096 j (fun h => by omega) (fun _ => And.intro iv (nm_r (e' := upd wc j 0) (by rw [ej]) (And.intro iv (nm_r (e' := upd pl j 99) (by rw [ej, mq_n99]) (And.intro iv (nm_r (e' := vp_updL pc j 0) (by rw [ej]) (nm_r (nI_1 j) (ih (j + 1) n _ _ _ (by omega) (by omega) (fun i hi => ?_)))))))))
    by_cases q : i = j
    · rw [q, pk_us, pk_us, pk_uLs]; exact ⟨rfl, rfl, rfl⟩
    · rw [pk_un q, pk_un q, pk_uLn q]; exact T i (by omega)
theorem xk_learn {post : SX → Prop} (w : mq_W th tk st) (B : mq_B xpr th) (hk : xkn = 0 ∨ mq_T wc pl pc (mq_F (mq_E cn ef th tk dm st) 0))
    (K : ∀ xkn xsw xsl xsc wc pl pc, mq_T wc pl pc (mq_F (mq_E cn ef th tk dm st) 0) → post (xpr, xsz, xkn, xsw, xsl, xsc, cn, ef, tk, dm, (mq_fs st), (mq_ss st), li, wc, pl, pc, kw, sa, pcs)) : wpX_learn post (xpr, xsz, xkn, xsw, xsl, xsc, cn, ef, tk, dm, (mq_fs st), (mq_ss st), li, wc, pl, pc, kw, sa, pcs) := by
  refine br_c (fun _ => ⟨4097, ?_⟩) (fun z => ?_)
  · exact xk_clear w B (fun _ _ _ _ _ _ T => K 1 _ _ _ _ _ _ T) 4096 0 4097 wc pl pc (by omega) (by omega) (fun i hi => absurd hi (Nat.not_lt_zero _))
  · exact K _ _ _ _ _ _ _ (hk.resolve_left z)
end
end
section
/-! the reference's walk: carryOut and next -/
section
def mp_ag (a : Nat → Int32) : List Nat → Prop
  | [] => True
  | v :: A => a A.length = nI v ∧ mp_ag a A
def mp_la (a : Nat → Int32) : Nat → List Nat → Prop
  | _, [] => True
  | k, c :: L => a k = nI c ∧ mp_la a (k + 1) L
theorem mp_ag_upd {a : Nat → Int32} {k : Nat} {x : Int32} : ∀ {A : List Nat}, A.length ≤ k → mp_ag a A → mp_ag (upd a k x) A := by
  intro A
  induction A with
  | nil => intro _ _; exact True.intro
  | cons v A ih =>
    intro h g
    have h' : A.length + 1 ≤ k := h
    exact ⟨(pk_un (by omega)).trans g.1, ih (by omega) g.2⟩
theorem mp_la_upd {a : Nat → Int32} {j : Nat} {x : Int32} : ∀ {L : List Nat} {k : Nat}, (j < k ∨ k + L.length ≤ j) → mp_la a k L → mp_la (upd a j x) k L := by
  intro L
  induction L with
  | nil => intro k _ _; exact True.intro
  | cons c L ih =>
    intro k h g
    have h' : j < k ∨ k + (L.length + 1) ≤ j := h
    exact ⟨(pk_un (by omega)).trans g.1, ih (by omega) g.2⟩
theorem mp_la_app {a : Nat → Int32} : ∀ {L M : List Nat} {k : Nat}, mp_la a k L → mp_la a (k + L.length) M → mp_la a k (L ++ M) := by
  intro L
  induction L with
  | nil => intro M k _ h; exact h
  | cons c L ih =>
    intro M k g h
    have h' : mp_la a (k + (L.length + 1)) M := h
    rw [show k + (L.length + 1) = k + 1 + L.length from by omega] at h'
    exact ⟨g.1, ih g.2 h'⟩
theorem mp_la_snoc {a : Nat → Int32} {L : List Nat} {k c : Nat} (g : mp_la a k L) : mp_la (upd a (k + L.length) (nI c)) k (L ++ [c]) :=
  mp_la_app (mp_la_upd (Or.inr (Nat.le_refl _)) g) ⟨pk_us, True.intro⟩
theorem mp_la_get {a : Nat → Int32} : ∀ {L : List Nat} {k i : Nat}, mp_la a k L → i < L.length → a (k + i) = nI (L.getD i 0) := by
  intro L
  induction L with
  | nil => intro k i _ h; exact absurd h (Nat.not_lt_zero _)
  | cons c L ih =>
    intro k i g h
    cases i with
    | zero => exact g.1
    | succ i =>
      have := ih g.2 (show i < L.length from Nat.lt_of_succ_lt_succ h)
      rw [show k + (i + 1) = k + 1 + i from by omega, this]
      rfl
theorem mp_inc_len : ∀ L : List Nat, (mp_inc L).length = L.length := by
  intro L
  induction L with
  | nil => rfl
  | cons c L ih =>
    cases L with
    | nil => rfl
    | cons d L => exact congrArg (· + 1) ih
theorem mp_inc_le : ∀ L : List Nat, (∀ c, c ∈ L → c < 8) → ∀ c, c ∈ mp_inc L → c ≤ 8 := by
  intro L
  induction L with
  | nil => intro _ c h; exact nomatch h
  | cons d L ih =>
    intro h c hc
    have hd := h d List.mem_cons_self
    cases L with
    | nil =>
      have : c = d + 1 := List.mem_singleton.mp hc
      omega
    | cons d' L =>
      rcases List.mem_cons.mp hc with q | q
      · omega
      · exact ih (fun x hx => h x (List.mem_cons_of_mem _ hx)) c q
theorem mp_la_inc {a : Nat → Int32} : ∀ {L : List Nat} {k j : Nat}, L ≠ [] → k + L.length = j + 1 → mp_la a k L → mp_la (upd a j (a j + 1)) k (mp_inc L) := by
  intro L
  induction L with
  | nil => intro k j h _ _; exact absurd rfl h
  | cons c L ih =>
    intro k j _ e g
    cases L with
    | nil =>
      have e' : k + 1 = j + 1 := e
      have : j = k := by omega
      subst this
      exact ⟨by rw [pk_us, g.1, nI_1], True.intro⟩
    | cons d L =>
      have e' : k + (L.length + 1 + 1) = j + 1 := e
      exact ⟨(pk_un (by omega)).trans g.1, ih (fun z => nomatch z) (by show k + 1 + (L.length + 1) = j + 1; omega) g.2⟩
theorem mp_len_pc : ∀ {A : List Nat}, (∀ v, v ∈ A → mp_av v) → A.length ≤ mp_sm mp_pc A := by
  intro A
  induction A with
  | nil => intro _; exact Nat.zero_le _
  | cons v A ih =>
    intro h
    have a := h v List.mem_cons_self
    have b := (mp_pc1 v (by unfold mp_av at a; omega)).1
    have c := ih (fun x hx => h x (List.mem_cons_of_mem _ hx))
    show A.length + 1 ≤ mp_pc v + mp_sm mp_pc A
    omega
end
section
variable {ywr ykn ymd yop yst yps ybs : Int32} {cn ef th tk dm st li yc yag ypl ybe : Nat → Int32}
theorem yk_holds {post : Int32 → Prop} {c x : Int32} (h1 : mq_hd c x = true → post 1) (h0 : mq_hd c x = false → post 0) : wpY_holds post (ywr, ykn, ymd, yop, yst, yps, ybs, cn, ef, th, tk, dm, st, li, yc, yag, ypl, ybe) c x := by
  refine br_c (fun a => br_c (fun b => ?_) (fun b => ?_)) (fun a => ?_)
  · exact h1 (by unfold mq_hd; rw [decide_eq_true a, decide_eq_true b]; rfl)
  · exact h0 (by unfold mq_hd; rw [decide_eq_false b, Bool.and_false])
  · exact h0 (by unfold mq_hd; rw [decide_eq_false a, Bool.false_and])
theorem yk_changed {post : Int32 → Prop} {a s : Nat} (ha : a < 6) (hs : s < 32) (K : post (nI (mq_ch ef a s))) : wpY_changed post (ywr, ykn, ymd, yop, yst, yps, ybs, cn, ef, th, tk, dm, st, li, yc, yag, ypl, ybe) (nI a) (nI s) := by
  have i := vp_in_nI (N := 6) ha (by decide)
  refine And.intro i (And.intro i ?_)
  rw [nI_clamp (by omega)]
  show post (mq_ex (ef a) (nI s))
  rw [(mq_ch_e hs).1]
  exact K
theorem yk_push {post : SY → Prop} {A : List Nat} {v : Nat} (hA : A.length < 31) (hv : v < 2 ^ 31) (g : mp_ag yag A)
    (K : ∀ yag, mp_ag yag (mp_one v ++ A) → post (ywr, ykn, ymd, nI (mp_one v ++ A).length, yst, yps, ybs, cn, ef, th, tk, dm, st, li, yc, yag, ypl, ybe)) : wpY_push post (ywr, ykn, ymd, nI A.length, yst, yps, ybs, cn, ef, th, tk, dm, st, li, yc, yag, ypl, ybe) (nI v) := by
  unfold mp_one at K
  refine pk_le v 0 (fun h => ?_) (fun h => ?_)
  · rw [if_pos (by omega)] at K
    exact K _ g
  · rw [if_neg (by omega)] at K
    refine And.intro (vp_in_nI hA (by decide)) (nm_r (e' := upd yag A.length (nI v)) (by rw [nI_clamp (by omega)]) (nm_r (nI_1 A.length) (K _ ⟨pk_us, mp_ag_upd (Nat.le_refl _) g⟩)))
theorem yk_find {post : Int32 → SY → Prop} {t s : Nat} : ∀ d c n, c + d = 8 → d < n →
    (mp_ff (fun m => mq_ok th tk dm t m s) d c = none → wY_choose_73 post (nI 8) ywr ykn ymd yop (nI s) yps ybs cn ef th tk dm st li yc yag ypl ybe) →
    (∀ m, mp_ff (fun m => mq_ok th tk dm t m s) d c = some m → wY_choose_73 post (nI m) ywr ykn ymd yop (nI s) yps ybs cn ef th tk dm st li yc yag ypl ybe) →
    wY_choose_25 post (nI t) ywr ykn ymd yop (nI s) yps ybs cn ef th tk dm st li yc yag ypl ybe n (nI c) := by
  intro d
  induction d with
  | zero =>
    intro c n h1 h2 Kn _
    obtain ⟨n, rfl⟩ : ∃ k, n = k + 1 := ⟨n - 1, by omega⟩
    have : c = 8 := by omega
    subst this
    exact br_t (nI_le (a := 8) (b := 8) (by omega) (by omega)) (Kn rfl)
  | succ d ih =>
    intro c n h1 h2 Kn Ks
    obtain ⟨n, rfl⟩ : ∃ k, n = k + 1 := ⟨n - 1, by omega⟩
    have iv : vp_in (nI c) 8 := vp_in_nI (by omega) (by decide)
    have ec : (nI c).toNatClampNeg = c := nI_clamp (by omega)
    have skip : ¬ mq_ok th tk dm t c s = true → wY_choose_25 post (nI t) ywr ykn ymd yop (nI s) yps ybs cn ef th tk dm st li yc yag ypl ybe n (nI (c + 1)) := by
      intro o
      rw [mp_ff, if_neg o] at Kn Ks
      exact ih (c + 1) n (by omega) (by omega) Kn Ks
    refine pk_le 8 c (fun h => by omega) (fun _ => And.intro iv ?_)
    rw [ec]
    refine br_c (fun z => nm_r (nI_1 c) (skip (fun o => (mq_ok_iff.mp o).1 z))) (fun z => And.intro iv (br_c (fun q => And.intro iv (yk_holds (fun o => ?_) (fun o => ?_))) (fun q => nm_r (nI_1 c) (skip (fun o => q (mq_ok_iff.mp o).2.1)))))
    · exact br_f (by decide) (Ks c (mp_ff_at (p := fun m => mq_ok th tk dm t m s) (mq_ok_iff.mpr ⟨z, q, o⟩)))
    · exact br_t rfl (nm_r (nI_1 c) (skip (fun o2 => by rw [(mq_ok_iff.mp o2).2.2] at o; exact nomatch o)))
theorem yk_choose {post : Int32 → SY → Prop} {t s kk : Nat} {A C pre : List Nat} (w : mq_W th tk st) (ht : t < 4)
    (hA : A.length + 2 ≤ 31) (hC : C.length < 15) (hkk : kk ≤ 15) (hp : (pre = [] ∧ kk ≤ C.length) ∨ C.length + pre.length = kk) (h8 : ∀ c, c ∈ pre → c ≤ 8)
    (gA : mp_ag yag A) (gC : mp_la yc 0 C) (gp : mp_la yc C.length pre)
    (Kn : mp_ff (fun m => mq_ok th tk dm t m s) (8 - pre.headD 0) (pre.headD 0) = none → post 0 (ywr, nI kk, nI C.length, nI A.length, nI s, yps, ybs, cn, ef, th, tk, dm, st, li, yc, yag, ypl, ybe))
    (Ks : ∀ m yc yag, mp_ff (fun m => mq_ok th tk dm t m s) (8 - pre.headD 0) (pre.headD 0) = some m → mp_la yc 0 (C ++ [m]) → mp_la yc (C.length + 1) pre.tail → mp_ag yag (mp_exp (mq_s1 st) (mq_s2 st) m ++ A) →
      post 1 (ywr, nI kk, nI (C.length + 1), nI (mp_exp (mq_s1 st) (mq_s2 st) m ++ A).length, nI s, yps, ybs, cn, ef, th, tk, dm, st, li, yc, yag, ypl, ybe)) :
    wpY_choose post (ywr, nI kk, nI C.length, nI A.length, nI s, yps, ybs, cn, ef, th, tk, dm, st, li, yc, yag, ypl, ybe) (nI t) := by
  have iv15 : vp_in (nI C.length) 15 := vp_in_nI hC (by decide)
  have eC : (nI C.length).toNatClampNeg = C.length := nI_clamp (by omega)
  have N : mp_ff (fun m => mq_ok th tk dm t m s) (8 - pre.headD 0) (pre.headD 0) = none → wY_choose_73 post (nI 8) ywr (nI kk) (nI C.length) (nI A.length) (nI s) yps ybs cn ef th tk dm st li yc yag ypl ybe := fun e => br_t rfl (Kn e)
  have S : ∀ m, mp_ff (fun m => mq_ok th tk dm t m s) (8 - pre.headD 0) (pre.headD 0) = some m → wY_choose_73 post (nI m) ywr (nI kk) (nI C.length) (nI A.length) (nI s) yps ybs cn ef th tk dm st li yc yag ypl ybe := by
    intro m e
    obtain ⟨o, _, b⟩ := mp_ff_some _ _ e
    have hc8 : pre.headD 0 ≤ 8 := by
      cases pre with
      | nil => exact Nat.zero_le _
      | cons c l => exact h8 c List.mem_cons_self
    have hm : m < 8 := by omega
    obtain ⟨t', ht', et, k1, k2, e1, e2⟩ := w m hm (mq_ok_iff.mp o).1
    have im : vp_in (nI m) 8 := vp_in_nI hm (by decide)
    have em : (nI m).toNatClampNeg = m := nI_clamp (by omega)
    unfold mp_sk at k1 k2
    have l2 : (mp_one (mq_s2 st m) ++ A).length ≤ A.length + 1 := by
      unfold mp_one
      split
      · exact Nat.le_succ _
      · exact Nat.le_refl _
    refine br_f (fun z => ?_) (And.intro iv15 (nm_r (e' := upd yc C.length (nI m)) (by rw [eC]) (nm_r (nI_1 C.length) (And.intro im ?_))))
    · have := (nI_eq (b := 8) (show m < 2 ^ 31 from by omega) (by decide)).mp z
      omega
    · rw [em]
      have e2' : st m >>> ((4 : Int32) &&& 31) = nI (mq_s2 st m) := e2
      have e1' : st m &&& 15 = nI (mq_s1 st m) := e1
      rw [e2']
      refine yk_push (by omega) (by omega) gA (fun yag g => And.intro im ?_)
      rw [e1']
      refine yk_push (by omega) (by omega) g (fun yag g => ?_)
      rw [← List.append_assoc] at g ⊢
      refine Ks m _ _ e ?_ ?_ g
      · have := mp_la_snoc (c := m) gC
        rw [Nat.zero_add] at this
        exact this
      · refine mp_la_upd (Or.inl (Nat.lt_succ_self _)) ?_
        cases pre with
        | nil => exact True.intro
        | cons c l => exact gp.2
  refine pk_le kk C.length (fun h => ⟨9, ?_⟩) (fun h => And.intro iv15 (nm_r (e' := nI (pre.headD 0)) ?_ ⟨9, ?_⟩))
  · have z : pre = [] := by
      rcases hp with hp | hp
      · exact hp.1
      · exact List.length_eq_zero_iff.mp (by omega)
    subst z
    exact yk_find 8 0 9 (by omega) (by omega) N S
  · cases pre with
    | nil =>
      exfalso
      rcases hp with hp | hp
      · omega
      · have : C.length + 0 = kk := hp
        omega
    | cons c l =>
      rw [eC]
      exact gp.1
  · have hc8 : pre.headD 0 ≤ 8 := by
      cases pre with
      | nil => exact Nat.zero_le _
      | cons c l => exact h8 c List.mem_cons_self
    exact yk_find (8 - pre.headD 0) (pre.headD 0) 9 (by omega) (by omega) N S
end
end
section
/-! the reference's walk: carryOut and next, the loops -/
section
variable {ywr ykn ymd yop yst yps ybs : Int32} {cn ef th tk dm st li yc yag ypl ybe : Nat → Int32}
def mq_out (C P : List Nat) (r : Option (List Nat × Nat) × List Nat) (x3 ymd yst yps : Int32) (yc ypl : Nat → Int32) : Prop :=
  ymd = nI (C ++ r.2).length ∧ mp_la yc 0 (C ++ r.2) ∧ ((r.1 = none ∧ x3 = 0) ∨ (∃ w, r.1 = some w ∧ x3 = 1 ∧ yst = nI w.2 ∧ yps = nI (P ++ w.1).length ∧ mp_la ypl 0 (P ++ w.1)))
theorem yk_co0 {post : Int32 → SY → Prop} {n : Nat} (K : post 0 (ywr, ykn, ymd, yop, yst, yps, ybs, cn, ef, th, tk, dm, st, li, yc, yag, ypl, ybe)) : wY_carryOut_30 post (n + 1) 0 ywr ykn ymd yop yst yps ybs cn ef th tk dm st li yc yag ypl ybe :=
  br_c (fun _ => And.intro narrow_b0 K) (fun _ => br_t rfl (And.intro narrow_b0 K))
theorem yk_co {post : Int32 → SY → Prop} {kk : Nat} (w : mq_W th tk st) (hkk : kk ≤ 15) : ∀ n A s pre C P yc yag ypl,
    (∀ v, v ∈ A → mp_av v) → mp_wt A < n → s < 32 → C.length + mp_sm mp_tc A ≤ 15 → P.length + mp_sm mp_pc A ≤ 16 →
    ((pre = [] ∧ kk ≤ C.length) ∨ C.length + pre.length = kk) → (∀ c, c ∈ pre → c ≤ 8) →
    mp_ag yag A → mp_la yc 0 C → mp_la yc C.length pre → mp_la ypl 0 P →
    (∀ x3 ymd yop yst yps yc yag ypl, mq_out C P (mp_co (mq_hc cn) (mq_ch ef) (mq_ok th tk dm) (mq_s1 st) (mq_s2 st) n A s pre) x3 ymd yst yps yc ypl → post x3 (ywr, nI kk, ymd, yop, yst, yps, ybs, cn, ef, th, tk, dm, st, li, yc, yag, ypl, ybe)) →
    wY_carryOut_30 post n 1 ywr (nI kk) (nI C.length) (nI A.length) (nI s) (nI P.length) ybs cn ef th tk dm st li yc yag ypl ybe := by
  intro n
  induction n with
  | zero => intro A s pre C P yc yag ypl _ h; exact absurd h (Nat.not_lt_zero _)
  | succ n ih =>
    intro A s pre C P yc yag ypl hA hn hs hC hP hp h8 gA gC gp gP K
    cases A with
    | nil =>
      refine br_t (by decide) (And.intro narrow_b1 (K _ _ _ _ _ _ _ _ ?_))
      show mq_out C P (some ([], s), []) _ _ _ _ _ _
      unfold mq_out
      rw [List.append_nil]
      exact ⟨rfl, gC, Or.inr ⟨([], s), rfl, rfl, rfl, by rw [List.append_nil], by rw [List.append_nil]; exact gP⟩⟩
    | cons v A =>
      have av := hA v List.mem_cons_self
      have hA' : ∀ x, x ∈ A → mp_av x := fun x hx => hA x (List.mem_cons_of_mem _ hx)
      have hC' : C.length + (mp_tc v + mp_sm mp_tc A) ≤ 15 := hC
      have hP' : P.length + (mp_pc v + mp_sm mp_pc A) ≤ 16 := hP
      have p1 := (mp_pc1 v (by unfold mp_av at av; omega)).1
      have lA := mp_len_pc hA'
      have hw := mp_wt_cons v A
      unfold mp_av at av
      obtain ⟨n, rfl⟩ : ∃ k, n = k + 1 := ⟨n - 1, by omega⟩
      refine br_f (nI_nle (n := A.length + 1) (by omega) (by omega)) (br_f (by decide) (nm_r (nI_pred A.length) (And.intro (vp_in_nI (by omega) (by decide)) (nm_r (e' := nI v) (by rw [nI_clamp (by omega)]; exact gA.1) ?_))))
      refine pk_lt v 8 (fun h => ?_) (fun h => ?_)
      · obtain ⟨a, rfl⟩ : ∃ a, v = a + 1 := ⟨v - 1, by omega⟩
        have nh : ¬ 8 ≤ a + 1 := by omega
        have ea : a + 1 - 1 = a := by omega
        rw [nI_pred, nI_clamp (show a < 2 ^ 31 from by omega)]
        have i16 : vp_in (nI P.length) 16 := vp_in_nI (by omega) (by decide)
        have eP : (nI P.length).toNatClampNeg = P.length := nI_clamp (by omega)
        refine And.intro (vp_in_nI (by omega) (by decide)) (yk_holds (fun o => yk_changed (by omega) hs ?_) (fun o => yk_changed (by omega) hs ?_))
        · refine And.intro i16 (nm_r (e' := upd ypl P.length (nI a)) (by rw [eP]) (nm_r (nI_1 P.length) ?_))
          have o' : mq_hc cn (a + 1 - 1) s = true := by rw [ea]; exact o
          have := ih A (mq_ch ef a s) pre C (P ++ [a]) yc yag (upd ypl P.length (nI a)) hA' (by omega) (mq_ch_lt a s hs) (by omega) (by rw [List.length_append]; show P.length + 1 + _ ≤ 16; omega) hp h8 gA.2 gC gp (by
            have := mp_la_snoc (c := a) gP
            rw [Nat.zero_add] at this
            exact this) (fun x3 ymd yop yst yps yc yag ypl O => K _ _ _ _ _ _ _ _ ?_)
          · rw [List.length_append] at this
            exact this
          · rw [mp_co_a nh o', ea]
            obtain ⟨O1, O2, O3⟩ := O
            refine ⟨O1, O2, ?_⟩
            rcases O3 with ⟨O3, O4⟩ | ⟨x, O3, O4, O5, O6, O7⟩
            · exact Or.inl ⟨by dsimp only; rw [O3]; rfl, O4⟩
            · refine Or.inr ⟨(a :: x.1, x.2), by dsimp only; rw [O3]; rfl, O4, O5, ?_, ?_⟩
              · rw [O6]
                exact congrArg nI (by rw [List.append_assoc]; rfl)
              · rw [List.append_assoc] at O7
                exact O7
        · refine And.intro i16 (nm_e (nm_e (yk_co0 (K _ _ _ _ _ _ _ _ ?_))))
          have o' : ¬ mq_hc cn (a + 1 - 1) s = true := by
            rw [ea, show mq_hc cn a s = false from o]
            decide
          rw [mp_co_b nh o']
          unfold mq_out
          rw [List.append_nil]
          exact ⟨rfl, gC, Or.inl ⟨rfl, rfl⟩⟩
      · obtain ⟨t, rfl⟩ : ∃ t, v = 8 + t := ⟨v - 8, by omega⟩
        have et : 8 + t - 8 = t := by omega
        have tc1 : 1 ≤ mp_tc (8 + t) ∧ 2 ≤ mp_pc (8 + t) := by
          have : ∀ t, t < 4 → 1 ≤ mp_tc (8 + t) ∧ 2 ≤ mp_pc (8 + t) := by decide
          exact this t (by omega)
        have e8 : nI (8 + t) - 8 = nI t := by
          show nI (8 + t) - nI 8 = nI t
          rw [pk_sub (by omega), et]
        rw [e8]
        refine yk_choose w (show t < 4 from by omega) (by omega) (by omega) hkk hp h8 gA.2 gC gp (fun e => ?_) (fun m yc yag e g1 g2 g3 => ?_)
        · refine yk_co0 (K _ _ _ _ _ _ _ _ ?_)
          have e' : mp_ff (fun m => mq_ok th tk dm (8 + t - 8) m s) (8 - pre.headD 0) (pre.headD 0) = none := by rw [et]; exact e
          rw [mp_co_n h e']
          unfold mq_out
          rw [List.append_nil]
          exact ⟨rfl, gC, Or.inl ⟨rfl, rfl⟩⟩
        · have e' : mp_ff (fun m => mq_ok th tk dm (8 + t - 8) m s) (8 - pre.headD 0) (pre.headD 0) = some m := by rw [et]; exact e
          obtain ⟨o, _, b⟩ := mp_ff_some _ _ e
          have hc8 : pre.headD 0 ≤ 8 := by
            cases pre with
            | nil => exact Nat.zero_le _
            | cons c l => exact h8 c List.mem_cons_self
          obtain ⟨w1, w2⟩ := mq_wf w t m s (by omega) (by omega) o
          have ew := mp_exp_w (s1 := mq_s1 st) (s2 := mq_s2 st) (show t < 4 from by omega) w1 w2
          have eww := mp_wt_exp (s1 := mq_s1 st) (s2 := mq_s2 st) (show t < 4 from by omega) w1 w2 A
          have lC : (C ++ [m]).length = C.length + 1 := by rw [List.length_append]; rfl
          have := ih (mp_exp (mq_s1 st) (mq_s2 st) m ++ A) s pre.tail (C ++ [m]) P yc yag ypl (mp_exp_av w1 w2 hA') (by omega) hs (by rw [lC, mp_sm_app]; omega) (by rw [mp_sm_app]; omega) (by
            rw [lC]
            cases pre with
            | nil =>
              rcases hp with hp | hp
              · exact Or.inl ⟨rfl, by omega⟩
              · exact Or.inl ⟨rfl, by have : C.length + 0 = kk := hp; omega⟩
            | cons c l =>
              rcases hp with hp | hp
              · exact nomatch hp.1
              · exact Or.inr (by have : C.length + (l.length + 1) = kk := hp; show C.length + 1 + l.length = kk; omega)) (fun c hc => h8 c (List.mem_of_mem_tail hc)) g3 g1 (by rw [lC]; exact g2) gP (fun x3 ymd yop yst yps yc yag ypl O => K _ _ _ _ _ _ _ _ ?_)
          · rw [lC] at this
            exact this
          · rw [mp_co_s h e']
            obtain ⟨O1, O2, O3⟩ := O
            rw [List.append_assoc] at O1 O2
            exact ⟨O1, O2, O3⟩
theorem yk_carry {post : Int32 → SY → Prop} {t s : Nat} {pre : List Nat} (w : mq_W th tk st) (ht : t < 4) (hs : s < 32) (hpl : pre.length ≤ 15) (h8 : ∀ c, c ∈ pre → c ≤ 8) (gp : mp_la yc 0 pre)
    (K : ∀ x3 ymd yop yst yps yc yag ypl, mq_out [] [] (mp_co (mq_hc cn) (mq_ch ef) (mq_ok th tk dm) (mq_s1 st) (mq_s2 st) 32 [8 + t] s pre) x3 ymd yst yps yc ypl → post x3 (ywr, nI pre.length, ymd, yop, yst, yps, ybs, cn, ef, th, tk, dm, st, li, yc, yag, ypl, ybe)) :
    wpY_carryOut post (ywr, nI pre.length, ymd, yop, yst, yps, ybs, cn, ef, th, tk, dm, st, li, yc, yag, ypl, ybe) (nI t) (nI s) := by
  have e8 : (8 : Int32) + nI t = nI (8 + t) := nI_add 8 t
  have lim : ∀ t, t < 4 → mp_wt [8 + t] < 32 ∧ 0 + mp_sm mp_tc [8 + t] ≤ 15 ∧ 0 + mp_sm mp_pc [8 + t] ≤ 16 := by decide
  obtain ⟨l1, l2, l3⟩ := lim t ht
  unfold wpY_carryOut
  dsimp only
  rw [e8]
  refine yk_push (A := []) (by decide) (by omega) True.intro (fun yag g => ?_)
  have eo : mp_one (8 + t) ++ [] = [8 + t] := by
    unfold mp_one
    rw [if_neg (by omega)]
    rfl
  rw [eo] at g ⊢
  exact ⟨32, yk_co (C := []) (P := []) w hpl 32 [8 + t] s pre yc yag ypl (fun v hv => by have e := List.mem_singleton.mp hv; unfold mp_av; omega) l1 hs l2 l3 (Or.inr (Nat.zero_add _)) h8 g True.intro gp True.intro K⟩
def mq_L (cn ef th tk dm st : Nat → Int32) (t s : Nat) (pre : List Nat) : List (Option (List Nat × Nat)) := mp_lv (mq_hc cn) (mq_ch ef) (mq_ok th tk dm) (mq_s1 st) (mq_s2 st) 32 [8 + t] s pre
/-- the ways still to come are ws -/
def mq_R (cn ef th tk dm st : Nat → Int32) (t s : Nat) (ykn : Int32) (yc : Nat → Int32) (ws : List (List Nat × Nat)) : Prop :=
  (ykn = -1 ∧ ws = []) ∨ ∃ pre : List Nat, pre.length ≤ 15 ∧ (∀ c, c ∈ pre → c ≤ 8) ∧ ykn = nI pre.length ∧ mp_la yc 0 pre ∧ ws = (mq_L cn ef th tk dm st t s pre).filterMap id
theorem mq_R_0 (w : mq_W th tk st) {t s : Nat} (ht : t < 4) : mq_R cn ef th tk dm st t s 0 yc ((mq_E cn ef th tk dm st) (8 + t) s) :=
  Or.inr ⟨[], by decide, (fun c hc => nomatch hc), rfl, True.intro, (mp_fw1 (mq_wf w) ht s).symm⟩
theorem yk_next0 {post : Int32 → SY → Prop} {t s : Nat} (w : mq_W th tk st) (ht : t < 4) (hs : s < 32) : ∀ k pre yc ymd yop yst yps yag ypl,
    (mq_L cn ef th tk dm st t s pre).length ≤ k → pre.length ≤ 15 → (∀ c, c ∈ pre → c ≤ 8) → mp_la yc 0 pre →
    ((mq_L cn ef th tk dm st t s pre).filterMap id = [] → ∀ ymd yop yst yps yc yag ypl, post 0 (ywr, -1, ymd, yop, yst, yps, ybs, cn, ef, th, tk, dm, st, li, yc, yag, ypl, ybe)) →
    (∀ x ws, (mq_L cn ef th tk dm st t s pre).filterMap id = x :: ws → ∀ ykn ymd yop yst yps yc yag ypl, mq_R cn ef th tk dm st t s ykn yc ws → yst = nI x.2 → yps = nI x.1.length → mp_la ypl 0 x.1 → post 1 (ywr, ykn, ymd, yop, yst, yps, ybs, cn, ef, th, tk, dm, st, li, yc, yag, ypl, ybe)) →
    wY_next_16 post (nI t) (nI s) (k + 1) 0 1 ywr (nI pre.length) ymd yop yst yps ybs cn ef th tk dm st li yc yag ypl ybe := by
  intro k
  induction k with
  | zero =>
    intro pre yc ymd yop yst yps yag ypl hk
    exfalso
    unfold mq_L at hk
    rw [mp_main] at hk
    exact absurd hk (Nat.not_succ_le_zero _)
  | succ k ih =>
    intro pre yc ymd yop yst yps yag ypl hk hpl h8 gp K0 K1
    have main := mp_main (hc := mq_hc cn) (ch := mq_ch ef) (ok := mq_ok th tk dm) (s1 := mq_s1 st) (s2 := mq_s2 st) 32 [8 + t] s pre
    have len := mp_co_len (hc := mq_hc cn) (ch := mq_ch ef) (mq_wf (dm := dm) w) 32 [8 + t] s pre (fun v hv => by have e := List.mem_singleton.mp hv; unfold mp_av; omega)
    have root := mp_co_root (hc := mq_hc cn) (ch := mq_ch ef) (ok := mq_ok th tk dm) (s1 := mq_s1 st) (s2 := mq_s2 st) (n := 31) (v := 8 + t) (A := []) (s := s) (pre := pre) (by omega)
    have lt15 : mp_sm mp_tc [8 + t] ≤ 15 := by
      have : ∀ t, t < 4 → mp_sm mp_tc [8 + t] ≤ 15 := by decide
      exact this t ht
    refine br_f (by decide) (br_t rfl (yk_carry w ht hs hpl h8 gp (fun x3 ymd yop yst yps yc yag ypl O => ?_)))
    change mq_L cn ef th tk dm st t s pre = _ at main
    revert len root O main
    generalize mp_co (mq_hc cn) (mq_ch ef) (mq_ok th tk dm) (mq_s1 st) (mq_s2 st) 32 [8 + t] s pre = r
    obtain ⟨r, C⟩ := r
    intro len root O main
    obtain ⟨O1, O2, O3⟩ := O
    rw [List.nil_append] at O1 O2
    dsimp only at main len root O1 O2 O3
    subst O1
    have hl : C.length ≤ 15 := Nat.le_trans len.1 lt15
    refine pk_le C.length 0 (fun h => ?_) (fun h => ?_)
    · have z : C = [] := List.length_eq_zero_iff.mp (by omega)
      subst z
      have rn := root rfl
      subst rn
      rw [if_pos rfl] at main
      rcases O3 with ⟨_, O4⟩ | ⟨x, O4, _⟩
      · subst O4
        exact br_t rfl (br_t rfl (br_t rfl (And.intro narrow_b0 (K0 (by rw [main]; rfl) _ _ _ _ _ _ _))))
      · exact nomatch O4
    · have ne : C ≠ [] := fun z => by rw [z] at h; exact absurd h (by decide)
      rw [if_neg ne] at main
      obtain ⟨j, hj⟩ : ∃ j, C.length = j + 1 := ⟨C.length - 1, by omega⟩
      have ek : nI C.length - 1 = nI j := by rw [hj, nI_pred]
      have iv : vp_in (nI C.length - 1) 15 := by rw [ek]; exact vp_in_nI (by omega) (by decide)
      have g' : mp_la (upd yc j (yc j + 1)) 0 (mp_inc C) := mp_la_inc ne (by omega) O2
      have il : (mp_inc C).length = C.length := mp_inc_len C
      have i8 := mp_inc_le C len.2
      change mq_L cn ef th tk dm st t s pre = r :: mq_L cn ef th tk dm st t s (mp_inc C) at main
      refine br_f (by decide) (And.intro iv (And.intro iv (nm_r (e' := upd yc j (yc j + 1)) (by rw [ek, nI_clamp (by omega)]) ?_)))
      rcases O3 with ⟨O3, O4⟩ | ⟨x, O3, O4, O5, O6, O7⟩
      · subst O3 O4
        rw [main] at hk K0 K1
        have := ih (mp_inc C) (upd yc j (yc j + 1)) (nI C.length) yop yst yps yag ypl (Nat.le_of_succ_le_succ hk) (by omega) i8 g' K0 K1
        rw [il] at this
        exact this
      · subst O3 O4
        refine br_f (by decide) (br_f (by decide) (br_f (by decide) (And.intro narrow_b1 ?_)))
        rw [main] at K1
        exact K1 x _ rfl _ _ _ _ _ _ _ _ (Or.inr ⟨mp_inc C, by omega, i8, by rw [il], g', rfl⟩) O5 O6 O7
theorem yk_next {post : Int32 → SY → Prop} {t s : Nat} {ws : List (List Nat × Nat)} (w : mq_W th tk st) (ht : t < 4) (hs : s < 32) (R : mq_R cn ef th tk dm st t s ykn yc ws)
    (K0 : ws = [] → ∀ ykn ymd yop yst yps yc yag ypl, post 0 (ywr, ykn, ymd, yop, yst, yps, ybs, cn, ef, th, tk, dm, st, li, yc, yag, ypl, ybe))
    (K1 : ∀ x xs, ws = x :: xs → ∀ ykn ymd yop yst yps yc yag ypl, mq_R cn ef th tk dm st t s ykn yc xs → yst = nI x.2 → yps = nI x.1.length → mp_la ypl 0 x.1 → post 1 (ywr, ykn, ymd, yop, yst, yps, ybs, cn, ef, th, tk, dm, st, li, yc, yag, ypl, ybe)) :
    wpY_next post (ywr, ykn, ymd, yop, yst, yps, ybs, cn, ef, th, tk, dm, st, li, yc, yag, ypl, ybe) (nI t) (nI s) := by
  rcases R with ⟨R1, R2⟩ | ⟨pre, R1, R2, R3, R4, R5⟩
  · subst R1
    exact br_t (by decide) ⟨1, br_t rfl (br_t rfl (And.intro narrow_b0 (K0 R2 _ _ _ _ _ _ _ _)))⟩
  · subst R3 R5
    exact br_f (nI_pos (by omega)) ⟨_, yk_next0 w ht hs _ pre yc ymd yop yst yps yag ypl (Nat.le_refl _) R1 R2 R4 (fun e => K0 e _) (fun x xs e => K1 x xs e)⟩
end
end
section
/-! the reference's walk: answers over all ways -/
section
variable {ywr ykn ymd yop yst yps ybs : Int32} {cn ef th tk dm st li yc yag ypl ybe : Nat → Int32}
theorem yk_cntA {post : Int32 → SY → Prop} {t s : Nat} (w : mq_W th tk st) (ht : t < 4) (hs : s < 32) : ∀ ws acc n ykn ymd yop yst yps yc yag ypl, ws.length < n → mq_R cn ef th tk dm st t s ykn yc ws →
    (∀ ykn ymd yop yst yps yc yag ypl, post (nI (acc + ws.length)) (ywr, ykn, ymd, yop, yst, yps, ybs, cn, ef, th, tk, dm, st, li, yc, yag, ypl, ybe)) → wY_count_8 post (nI t) (nI s) (-1) n (nI acc) ywr ykn ymd yop yst yps ybs cn ef th tk dm st li yc yag ypl ybe := by
  intro ws
  induction ws with
  | nil =>
    intro acc n ykn ymd yop yst yps yc yag ypl hn R K
    obtain ⟨n, rfl⟩ : ∃ k, n = k + 1 := ⟨n - 1, by omega⟩
    exact yk_next w ht hs R (fun _ _ _ _ _ _ _ _ _ => br_t rfl (K _ _ _ _ _ _ _ _)) (fun x xs e => nomatch e)
  | cons x ws ih =>
    intro acc n ykn ymd yop yst yps yc yag ypl hn R K
    obtain ⟨n, rfl⟩ : ∃ k, n = k + 1 := ⟨n - 1, by omega⟩
    have hn' : ws.length + 1 < n + 1 := hn
    refine yk_next w ht hs R (fun e => nomatch e) (fun y ys e _ _ _ _ _ _ _ _ R' e1 e2 e3 => br_f (by decide) (br_t (by decide) (nm_r (nI_1 acc) (ih (acc + 1) n _ _ _ _ _ _ _ _ (by omega) ?_ (fun _ _ _ _ _ _ _ _ => ?_)))))
    · cases e; exact R'
    · have := K
      rw [show acc + (x :: ws).length = acc + 1 + ws.length from by show acc + (ws.length + 1) = _; omega] at this
      exact this _ _ _ _ _ _ _ _
theorem yk_countA {post : Int32 → SY → Prop} {t s : Nat} (w : mq_W th tk st) (ht : t < 4) (hs : s < 32)
    (K : ∀ ykn ymd yop yst yps yc yag ypl, post (nI ((mq_E cn ef th tk dm st) (8 + t) s).length) (ywr, ykn, ymd, yop, yst, yps, ybs, cn, ef, th, tk, dm, st, li, yc, yag, ypl, ybe)) : wpY_count post (ywr, ykn, ymd, yop, yst, yps, ybs, cn, ef, th, tk, dm, st, li, yc, yag, ypl, ybe) (nI t) (nI s) (-1) := by
  refine ⟨((mq_E cn ef th tk dm st) (8 + t) s).length + 1, yk_cntA w ht hs ((mq_E cn ef th tk dm st) (8 + t) s) 0 _ _ _ _ _ _ _ _ _ (Nat.lt_succ_self _) (mq_R_0 w ht) ?_⟩
  rw [Nat.zero_add]
  exact K
theorem yk_cntE {post : Int32 → SY → Prop} {t s e : Nat} (w : mq_W th tk st) (ht : t < 4) (hs : s < 32) (he : e < 32) : ∀ ws acc n ykn ymd yop yst yps yc yag ypl, ws.length < n → (∀ x, x ∈ ws → x.2 < 32) → mq_R cn ef th tk dm st t s ykn yc ws →
    (∀ ykn ymd yop yst yps yc yag ypl, post (nI (acc + (mp_pe ws e).length)) (ywr, ykn, ymd, yop, yst, yps, ybs, cn, ef, th, tk, dm, st, li, yc, yag, ypl, ybe)) → wY_count_8 post (nI t) (nI s) (nI e) n (nI acc) ywr ykn ymd yop yst yps ybs cn ef th tk dm st li yc yag ypl ybe := by
  intro ws
  induction ws with
  | nil =>
    intro acc n ykn ymd yop yst yps yc yag ypl hn hw R K
    obtain ⟨n, rfl⟩ : ∃ k, n = k + 1 := ⟨n - 1, by omega⟩
    exact yk_next w ht hs R (fun _ _ _ _ _ _ _ _ _ => br_t rfl (K _ _ _ _ _ _ _ _)) (fun x xs e => nomatch e)
  | cons x ws ih =>
    intro acc n ykn ymd yop yst yps yc yag ypl hn hw R K
    obtain ⟨n, rfl⟩ : ∃ k, n = k + 1 := ⟨n - 1, by omega⟩
    have hn' : ws.length + 1 < n + 1 := hn
    have hx := hw x List.mem_cons_self
    rw [mp_pe_cons] at K
    refine yk_next w ht hs R (fun e => nomatch e) (fun y ys q _ _ _ _ _ _ _ _ R' e1 e2 e3 => ?_)
    cases q
    subst e1
    refine br_f (by decide) (br_f (nI_pos (by omega)) (pk_eq x.2 e (fun q => nm_r (nI_1 acc) (ih (acc + 1) n _ _ _ _ _ _ _ _ (by omega) (fun y hy => hw y (List.mem_cons_of_mem _ hy)) R' ?_)) (fun q => ih acc n _ _ _ _ _ _ _ _ (by omega) (fun y hy => hw y (List.mem_cons_of_mem _ hy)) R' ?_)))
    · rw [if_pos q, show acc + ([x.1] ++ mp_pe ws e).length = acc + 1 + (mp_pe ws e).length from by show acc + ((mp_pe ws e).length + 1) = _; omega] at K
      exact K
    · rw [if_neg q, List.nil_append] at K
      exact K
theorem yk_countE {post : Int32 → SY → Prop} {t s e : Nat} (w : mq_W th tk st) (ht : t < 4) (hs : s < 32) (he : e < 32)
    (K : ∀ ykn ymd yop yst yps yc yag ypl, post (nI (mp_pe ((mq_E cn ef th tk dm st) (8 + t) s) e).length) (ywr, ykn, ymd, yop, yst, yps, ybs, cn, ef, th, tk, dm, st, li, yc, yag, ypl, ybe)) : wpY_count post (ywr, ykn, ymd, yop, yst, yps, ybs, cn, ef, th, tk, dm, st, li, yc, yag, ypl, ybe) (nI t) (nI s) (nI e) := by
  refine ⟨((mq_E cn ef th tk dm st) (8 + t) s).length + 1, yk_cntE w ht hs he ((mq_E cn ef th tk dm st) (8 + t) s) 0 _ _ _ _ _ _ _ _ _ (Nat.lt_succ_self _) (fun x hx => (mq_E_ok w (by omega) (by omega) hs x hx).1) (mq_R_0 w ht) ?_⟩
  rw [Nat.zero_add]
  exact K
/-- the least end from e on -/
def mq_nx (S : List (List Nat × Nat)) (e : Nat) (l : Int32) : Prop := (l = -1 ∧ ∀ x, x ∈ S → x.2 < e) ∨ ∃ k, k < 32 ∧ l = nI k ∧ e ≤ k ∧ (∃ x, x ∈ S ∧ x.2 = k) ∧ ∀ x, x ∈ S → e ≤ x.2 → k ≤ x.2
theorem mq_nx_uniq {S : List (List Nat × Nat)} {e : Nat} {l l' : Int32} (h : mq_nx S e l) (h' : mq_nx S e l') : l = l' := by
  rcases h with ⟨a, b⟩ | ⟨k, hk, a, b, ⟨x, hx, ex⟩, d⟩ <;> rcases h' with ⟨a', b'⟩ | ⟨k', hk', a', b', ⟨x', hx', ex'⟩, d'⟩
  · rw [a, a']
  · have := b x' hx'
    omega
  · have := b' x hx
    omega
  · have q1 := d x' hx' (by omega)
    have q2 := d' x hx (by omega)
    rw [a, a', show k = k' from by omega]
theorem yk_nxE {post : Int32 → SY → Prop} {t s e : Nat} (w : mq_W th tk st) (ht : t < 4) (hs : s < 32) (he : e < 32) : ∀ ws S n l ykn ymd yop yst yps yc yag ypl, ws.length < n → (∀ x, x ∈ ws → x.2 < 32) → mq_R cn ef th tk dm st t s ykn yc ws → mq_nx S e l →
    (∀ l ykn ymd yop yst yps yc yag ypl, mq_nx (S ++ ws) e l → post l (ywr, ykn, ymd, yop, yst, yps, ybs, cn, ef, th, tk, dm, st, li, yc, yag, ypl, ybe)) → wY_nextEnd_34 post (nI t) (nI s) (nI e) n l ywr ykn ymd yop yst yps ybs cn ef th tk dm st li yc yag ypl ybe := by
  intro ws
  induction ws with
  | nil =>
    intro S n l ykn ymd yop yst yps yc yag ypl hn hw R N K
    obtain ⟨n, rfl⟩ : ∃ k, n = k + 1 := ⟨n - 1, by omega⟩
    rw [List.append_nil] at K
    exact yk_next w ht hs R (fun _ _ _ _ _ _ _ _ _ => br_t rfl (K _ _ _ _ _ _ _ _ _ N)) (fun x xs e => nomatch e)
  | cons x ws ih =>
    intro S n l ykn ymd yop yst yps yc yag ypl hn hw R N K
    obtain ⟨n, rfl⟩ : ∃ k, n = k + 1 := ⟨n - 1, by omega⟩
    have hn' : ws.length + 1 < n + 1 := hn
    have hx := hw x List.mem_cons_self
    have hw' : ∀ y, y ∈ ws → y.2 < 32 := fun y hy => hw y (List.mem_cons_of_mem _ hy)
    have mem : ∀ y, y ∈ S ++ [x] → y ∈ S ∨ y = x := fun y hy => (List.mem_append.mp hy).elim Or.inl (fun q => Or.inr (List.mem_singleton.mp q))
    have K' : ∀ l ykn ymd yop yst yps yc yag ypl, mq_nx ((S ++ [x]) ++ ws) e l → post l (ywr, ykn, ymd, yop, yst, yps, ybs, cn, ef, th, tk, dm, st, li, yc, yag, ypl, ybe) := by
      rw [List.append_assoc]
      exact K
    refine yk_next w ht hs R (fun e => nomatch e) (fun y ys q _ _ _ _ _ _ _ _ R' e1 e2 e3 => ?_)
    cases q
    subst e1
    refine br_f (by decide) (pk_lt x.2 e (fun q => ?_) (fun q => ?_))
    · refine ih (S ++ [x]) n l _ _ _ _ _ _ _ _ (by omega) hw' R' ?_ K'
      rcases N with ⟨a, b⟩ | ⟨k, hk, a, b, ⟨y, hy, ey⟩, d⟩
      · exact Or.inl ⟨a, fun y hy => (mem y hy).elim (b y) (fun z => by rw [z]; exact q)⟩
      · exact Or.inr ⟨k, hk, a, b, ⟨y, List.mem_append_left _ hy, ey⟩, fun z hz hz2 => (mem z hz).elim (fun m => d z m hz2) (fun m => by rw [m] at hz2; omega)⟩
    · rcases N with ⟨a, b⟩ | ⟨k, hk, a, b, ⟨y, hy, ey⟩, d⟩
      · subst a
        refine br_t (by decide) (ih (S ++ [x]) n (nI x.2) _ _ _ _ _ _ _ _ (by omega) hw' R' ?_ K')
        exact Or.inr ⟨x.2, hx, rfl, q, ⟨x, List.mem_append_right _ List.mem_cons_self, rfl⟩, fun z hz hz2 => (mem z hz).elim (fun m => by have := b z m; omega) (fun m => by rw [m]; exact Nat.le_refl _)⟩
      · subst a
        refine br_f (nI_pos (by omega)) (pk_le k x.2 (fun q2 => ih (S ++ [x]) n (nI k) _ _ _ _ _ _ _ _ (by omega) hw' R' ?_ K') (fun q2 => ih (S ++ [x]) n (nI x.2) _ _ _ _ _ _ _ _ (by omega) hw' R' ?_ K'))
        · exact Or.inr ⟨k, hk, rfl, b, ⟨y, List.mem_append_left _ hy, ey⟩, fun z hz hz2 => (mem z hz).elim (fun m => d z m hz2) (fun m => by rw [m]; exact q2)⟩
        · exact Or.inr ⟨x.2, hx, rfl, q, ⟨x, List.mem_append_right _ List.mem_cons_self, rfl⟩, fun z hz hz2 => (mem z hz).elim (fun m => by have := d z m hz2; omega) (fun m => by rw [m]; exact Nat.le_refl _)⟩
/-! the first plan -/
theorem yk_better44 {post : Int32 → Prop} : ∀ p q i n, p.length = q.length → (∀ d, d ∈ p → d < 6) → (∀ d, d ∈ q → d < 6) → i + p.length ≤ 16 → p.length < n → mp_la ypl i p → mp_la ybe i q →
    (mp_code p < mp_code q → post 1) → (¬ mp_code p < mp_code q → post 0) → wY_better_44 post ywr ykn ymd yop yst (nI (i + p.length)) ybs cn ef th tk dm st li yc yag ypl ybe n (nI i) := by
  intro p
  induction p with
  | nil =>
    intro q i n hl hp hq h16 hn gp gq K1 K0
    obtain ⟨n, rfl⟩ : ∃ k, n = k + 1 := ⟨n - 1, by omega⟩
    have : q = [] := List.length_eq_zero_iff.mp hl.symm
    subst this
    exact br_t (nI_le (Nat.le_refl _) (by omega)) (K0 (Nat.lt_irrefl _))
  | cons a p ih =>
    intro q i n hl hp hq h16 hn gp gq K1 K0
    obtain ⟨n, rfl⟩ : ∃ k, n = k + 1 := ⟨n - 1, by omega⟩
    cases q with
    | nil => exact nomatch hl
    | cons b q =>
      have hl' : p.length = q.length := Nat.succ.inj hl
      have h16' : i + (p.length + 1) ≤ 16 := h16
      have hn' : p.length + 1 < n + 1 := hn
      have ha := hp a List.mem_cons_self
      have hb := hq b List.mem_cons_self
      have hp' : ∀ d, d ∈ p → d < 6 := fun d hd => hp d (List.mem_cons_of_mem _ hd)
      have hq' : ∀ d, d ∈ q → d < 6 := fun d hd => hq d (List.mem_cons_of_mem _ hd)
      have cp := mp_code_lt p hp'
      have cq := mp_code_lt q hq'
      have ca : mp_code (a :: p) = a * 6 ^ p.length + mp_code p := rfl
      have cb : mp_code (b :: q) = b * 6 ^ p.length + mp_code q := by rw [hl']; rfl
      rw [← hl'] at cq
      have iv : vp_in (nI i) 16 := vp_in_nI (by omega) (by decide)
      have ei : (nI i).toNatClampNeg = i := nI_clamp (by omega)
      refine br_f (nI_ge (a := i) (b := i + (p.length + 1)) (by omega) (by omega)) (And.intro iv (And.intro iv ?_))
      rw [ei, gp.1, gq.1]
      refine pk_eq a b (fun e => nm_r (nI_1 i) ?_) (fun e => And.intro iv (And.intro iv (pk_le b a (fun h => K0 ?_) (fun h => K1 ?_))))
      · have := ih q (i + 1) n hl' hp' hq' (by omega) (by omega) gp.2 gq.2 (fun z => K1 (by rw [ca, cb, e]; omega)) (fun z => K0 (by rw [ca, cb, e]; omega))
        rw [show i + 1 + p.length = i + (a :: p).length from by show i + 1 + p.length = i + (p.length + 1); omega] at this
        exact this
      · have : (b + 1) * 6 ^ p.length ≤ a * 6 ^ p.length := Nat.mul_le_mul_right _ (by omega)
        rw [Nat.succ_mul] at this
        rw [ca, cb]
        omega
      · have : (a + 1) * 6 ^ p.length ≤ b * 6 ^ p.length := Nat.mul_le_mul_right _ (by omega)
        rw [Nat.succ_mul] at this
        rw [ca, cb]
        omega
def mq_sr (M : List (List Nat)) (ybs : Int32) (ybe : Nat → Int32) : Prop := (M = [] ∧ ybs = -1) ∨ ∃ q, q ∈ M ∧ ybs = nI q.length ∧ mp_la ybe 0 q ∧ ∀ r, r ∈ M → mp_kl q.length (mp_code q) r.length (mp_code r)
theorem mq_sr_keep {M : List (List Nat)} {q p : List Nat} (hq : q ∈ M) (e : ybs = nI q.length) (g : mp_la ybe 0 q) (l : ∀ r, r ∈ M → mp_kl q.length (mp_code q) r.length (mp_code r)) (k : mp_kl q.length (mp_code q) p.length (mp_code p)) : mq_sr (M ++ [p]) ybs ybe :=
  Or.inr ⟨q, List.mem_append_left _ hq, e, g, fun r hr => (List.mem_append.mp hr).elim (l r) (fun z => by rw [List.mem_singleton.mp z]; exact k)⟩
theorem yk_copy {post : SY → Prop} {J : Int32 → Int32 → Int32 → Int32 → Int32 → Int32 → Int32 → (Nat → Int32) → (Nat → Int32) → (Nat → Int32) → (Nat → Int32) → (Nat → Int32) → (Nat → Int32) → (Nat → Int32) → (Nat → Int32) → (Nat → Int32) → (Nat → Int32) → (Nat → Int32) → Prop} {x1 x2 x3 : Int32} :
    ∀ p2 p1 n ybe, p1.length + p2.length ≤ 16 → p2.length < n → mp_la ypl p1.length p2 → mp_la ybe 0 p1 → (∀ ybe, mp_la ybe 0 (p1 ++ p2) → J ywr ykn ymd yop yst (nI (p1.length + p2.length)) ybs cn ef th tk dm st li yc yag ypl ybe) →
    wY_search_45 post J x1 x2 x3 ywr ykn ymd yop yst (nI (p1.length + p2.length)) ybs n (nI p1.length) cn ef th tk dm st li yc yag ypl ybe := by
  intro p2
  induction p2 with
  | nil =>
    intro p1 n ybe h16 hn gp gb K
    obtain ⟨n, rfl⟩ : ∃ k, n = k + 1 := ⟨n - 1, by omega⟩
    have h16' : p1.length + 0 ≤ 16 := h16
    rw [List.append_nil] at K
    exact br_t (nI_le (Nat.le_refl _) (by omega)) (K _ gb)
  | cons a p2 ih =>
    intro p1 n ybe h16 hn gp gb K
    obtain ⟨n, rfl⟩ : ∃ k, n = k + 1 := ⟨n - 1, by omega⟩
    have h16' : p1.length + (p2.length + 1) ≤ 16 := h16
    have hn' : p2.length + 1 < n + 1 := hn
    have l1 : (p1 ++ [a]).length = p1.length + 1 := by rw [List.length_append]; rfl
    have iv : vp_in (nI p1.length) 16 := vp_in_nI (by omega) (by decide)
    have ei : (nI p1.length).toNatClampNeg = p1.length := nI_clamp (by omega)
    refine br_f (nI_ge (a := p1.length) (b := p1.length + (p2.length + 1)) (by omega) (by omega)) (And.intro iv (And.intro iv (nm_r (e' := upd ybe p1.length (nI a)) (by rw [ei, gp.1]) (nm_r (nI_1 p1.length) ?_))))
    have g2 := mp_la_snoc (c := a) gb
    rw [Nat.zero_add] at g2
    have K' : ∀ ybe, mp_la ybe 0 ((p1 ++ [a]) ++ p2) → J ywr ykn ymd yop yst (nI (p1.length + (a :: p2).length)) ybs cn ef th tk dm st li yc yag ypl ybe := by
      rw [List.append_assoc]
      exact K
    have := ih (p1 ++ [a]) n (upd ybe p1.length (nI a)) (by omega) (by omega) (by rw [l1]; exact gp.2) g2
    rw [l1, show p1.length + 1 + p2.length = p1.length + (a :: p2).length from by show _ = p1.length + (p2.length + 1); omega] at this
    exact this K'
theorem yk_sr {post : SY → Prop} {t s e : Nat} (w : mq_W th tk st) (ht : t < 4) (hs : s < 32) (he : e < 32) : ∀ ws S n ykn ymd yop yst yps ybs yc yag ypl ybe, ws.length < n → (∀ x, x ∈ S ++ ws → x ∈ (mq_E cn ef th tk dm st) (8 + t) s) → mq_R cn ef th tk dm st t s ykn yc ws → mq_sr (mp_pe S e) ybs ybe →
    (∀ ykn ymd yop yst yps ybs yc yag ypl ybe, mq_sr (mp_pe (S ++ ws) e) ybs ybe → post (ywr, ykn, ymd, yop, yst, yps, ybs, cn, ef, th, tk, dm, st, li, yc, yag, ypl, ybe)) → wY_search_10 post (nI t) (nI s) (nI e) n ywr ykn ymd yop yst yps ybs cn ef th tk dm st li yc yag ypl ybe := by
  intro ws
  induction ws with
  | nil =>
    intro S n ykn ymd yop yst yps ybs yc yag ypl ybe hn hw R N K
    obtain ⟨n, rfl⟩ : ∃ k, n = k + 1 := ⟨n - 1, by omega⟩
    rw [List.append_nil] at K
    exact yk_next w ht hs R (fun _ _ _ _ _ _ _ _ _ => br_t rfl (K _ _ _ _ _ _ _ _ _ _ N)) (fun x xs e => nomatch e)
  | cons x ws ih =>
    intro S n ykn ymd yop yst yps ybs yc yag ypl ybe hn hw R N K
    obtain ⟨n, rfl⟩ : ∃ k, n = k + 1 := ⟨n - 1, by omega⟩
    have hn' : ws.length + 1 < n + 1 := hn
    have gx := mq_E_ok w (by omega) (by omega) hs x (hw x (List.mem_append_right _ List.mem_cons_self))
    have l16 : x.1.length ≤ 16 := Nat.le_trans gx.2.1 (mp_pc1 (8 + t) (by omega)).2.1
    have hx := gx.1
    have hw' : ∀ y, y ∈ (S ++ [x]) ++ ws → y ∈ (mq_E cn ef th tk dm st) (8 + t) s := by
      rw [List.append_assoc]
      exact hw
    have K' : ∀ ykn ymd yop yst yps ybs yc yag ypl ybe, mq_sr (mp_pe ((S ++ [x]) ++ ws) e) ybs ybe → post (ywr, ykn, ymd, yop, yst, yps, ybs, cn, ef, th, tk, dm, st, li, yc, yag, ypl, ybe) := by
      rw [List.append_assoc]
      exact K
    have ep : mp_pe (S ++ [x]) e = mp_pe S e ++ (if x.2 = e then [x.1] else []) := by
      rw [mp_pe_app, mp_pe_cons]
      exact congrArg _ (List.append_nil _)
    refine yk_next w ht hs R (fun e => nomatch e) (fun y ys q ykn ymd yop yst yps yc yag ypl R' e1 e2 e3 => ?_)
    cases q
    subst e1 e2
    refine br_f (by decide) (pk_eq x.2 e (fun q => ?_) (fun q => ih (S ++ [x]) n _ _ _ _ _ _ _ _ _ _ (by omega) hw' R' (by rw [ep, if_neg q, List.append_nil]; exact N) K'))
    rw [if_pos q] at ep
    have copy : (∀ r, r ∈ mp_pe S e → mp_kl x.1.length (mp_code x.1) r.length (mp_code r)) → ∃ n45 : Nat, wY_search_45 post (wY_search_10 post (nI t) (nI s) (nI e) n) (nI t) (nI s) (nI e) ywr ykn ymd yop (nI x.2) (nI x.1.length) (nI x.1.length) n45 0 cn ef th tk dm st li yc yag ypl ybe := by
      intro l
      have := yk_copy (post := post) (J := wY_search_10 post (nI t) (nI s) (nI e) n) (x1 := nI t) (x2 := nI s) (x3 := nI e) (ywr := ywr) (ykn := ykn) (ymd := ymd) (yop := yop) (yst := nI x.2) (ybs := nI x.1.length) (cn := cn) (ef := ef) (th := th) (tk := tk) (dm := dm) (st := st) (li := li) (yc := yc) (yag := yag) (ypl := ypl) x.1 [] 17 ybe (by rw [List.length_nil]; omega) (by omega) e3 True.intro (fun ybe g => by
        rw [List.length_nil, Nat.zero_add]
        refine ih (S ++ [x]) n _ _ _ _ _ _ _ _ _ _ (by omega) hw' R' ?_ K'
        rw [ep]
        refine Or.inr ⟨x.1, List.mem_append_right _ List.mem_cons_self, rfl, g, fun r hr => (List.mem_append.mp hr).elim (l r) (fun z => ?_)⟩
        rw [List.mem_singleton.mp z]
        exact Or.inr ⟨rfl, Nat.le_refl _⟩)
      rw [List.length_nil, Nat.zero_add] at this
      exact ⟨17, this⟩
    rcases N with ⟨N1, N2⟩ | ⟨b, N1, N2, N3, N4⟩
    · subst N2
      refine br_t (by decide) (br_t (by decide) (br_f (by decide) (copy (fun r hr => ?_))))
      rw [N1] at hr
      exact nomatch hr
    · subst N2
      have gb := mq_E_ok w (by omega) (by omega) hs (b, e) (hw _ (List.mem_append_left _ (mp_pe_mem.mp N1)))
      have b16 : b.length ≤ 16 := Nat.le_trans gb.2.1 (mp_pc1 (8 + t) (by omega)).2.1
      have keep : mp_kl b.length (mp_code b) x.1.length (mp_code x.1) → wY_search_10 post (nI t) (nI s) (nI e) n ywr ykn ymd yop (nI x.2) (nI x.1.length) (nI b.length) cn ef th tk dm st li yc yag ypl ybe := by
        intro k
        refine ih (S ++ [x]) n _ _ _ _ _ _ _ _ _ _ (by omega) hw' R' ?_ K'
        rw [ep]
        exact mq_sr_keep N1 rfl N3 N4 k
      have new : x.1.length < b.length ∨ (x.1.length = b.length ∧ mp_code x.1 < mp_code b) → ∀ r, r ∈ mp_pe S e → mp_kl x.1.length (mp_code x.1) r.length (mp_code r) := by
        intro h r hr
        have := N4 r hr
        unfold mp_kl at *
        omega
      refine br_f (nI_pos (by omega)) (pk_eq x.1.length b.length (fun q2 => ⟨17, ?_⟩) (fun q2 => br_f (nI_pos (by omega)) (pk_le b.length x.1.length (fun q3 => br_t rfl (keep (Or.inl (by omega)))) (fun q3 => br_f (by decide) (copy (new (Or.inl q3)))))))
      have := yk_better44 (ywr := ywr) (ykn := ykn) (ymd := ymd) (yop := yop) (yst := nI x.2) (ybs := nI b.length) (cn := cn) (ef := ef) (th := th) (tk := tk) (dm := dm) (st := st) (li := li) (yc := yc) (yag := yag) (ypl := ypl) (ybe := ybe)
        (post := fun r_22 => (r_22 = 0 → wY_search_10 post (nI t) (nI s) (nI e) n ywr ykn ymd yop (nI x.2) (nI x.1.length) (nI b.length) cn ef th tk dm st li yc yag ypl ybe) ∧ (¬ r_22 = 0 → ∃ n45 : Nat, wY_search_45 post (wY_search_10 post (nI t) (nI s) (nI e) n) (nI t) (nI s) (nI e) ywr ykn ymd yop (nI x.2) (nI x.1.length) (nI x.1.length) n45 0 cn ef th tk dm st li yc yag ypl ybe))
        x.1 b 0 17 q2 gx.2.2.1 gb.2.2.1 (by omega) (by omega) e3 N3 (fun z => br_f (by decide) (copy (new (Or.inr ⟨q2, z⟩)))) (fun z => br_t rfl (keep (Or.inr ⟨q2.symm, by omega⟩)))
      rw [Nat.zero_add] at this
      exact this
theorem yk_search {post : SY → Prop} {t s e : Nat} (w : mq_W th tk st) (ht : t < 4) (hs : s < 32) (he : e < 32)
    (K : ∀ ykn ymd yop yst yps ybs yc yag ypl ybe, mq_sr (mp_pe ((mq_E cn ef th tk dm st) (8 + t) s) e) ybs ybe → post (ywr, ykn, ymd, yop, yst, yps, ybs, cn, ef, th, tk, dm, st, li, yc, yag, ypl, ybe)) : wpY_search post (ywr, ykn, ymd, yop, yst, yps, ybs, cn, ef, th, tk, dm, st, li, yc, yag, ypl, ybe) (nI t) (nI s) (nI e) :=
  ⟨((mq_E cn ef th tk dm st) (8 + t) s).length + 1, yk_sr w ht hs he ((mq_E cn ef th tk dm st) (8 + t) s) [] _ _ _ _ _ _ _ _ _ _ _ (Nat.lt_succ_self _) (fun _ h => h) (mq_R_0 w ht) (Or.inl ⟨rfl, rfl⟩) K⟩
end
end
section
/-! guards of both, and the component's answers out of the table -/
section
theorem mq_lt_of_le {x : Int32} (n : Nat) (hn : n + 1 < 2 ^ 31) (h : nI (n + 1) ≤ x) : nI n < x := by
  rw [Int32.le_iff_toInt_le, nI_toInt hn] at h
  rw [Int32.lt_iff_toInt_lt, nI_toInt (by omega)]
  omega
theorem mq_not {x : Int32} {n : Nat} (h : x < 0 ∨ nI n ≤ x) (z : ¬ x < 0) : nI n ≤ x := h.resolve_left z
variable {post : Int32 → Prop} {x : Int32} {n : Nat}
theorem xk_task1 (h : n < 4) (K : post 1) : wpX_isTask post (nI n) := br_f (nI_pos (by omega)) (br_f (nI_ge (a := n) (b := 4) h (by decide)) K)
theorem xk_task0 (h : x < 0 ∨ nI 4 ≤ x) (K : post 0) : wpX_isTask post x := br_c (fun _ => K) (fun z => br_t (mq_not h z) K)
theorem xk_state1 (h : n < 32) (K : post 1) : wpX_isState post (nI n) := br_f (nI_pos (by omega)) (br_f (nI_ge (a := n) (b := 32) h (by decide)) K)
theorem xk_state0 (h : x < 0 ∨ nI 32 ≤ x) (K : post 0) : wpX_isState post x := br_c (fun _ => K) (fun z => br_t (mq_not h z) K)
theorem xk_pack1 (h : n < 1024) (K : post 1) : wpX_isPacked post (nI n) := br_f (nI_pos (by omega)) (br_f (nI_ge (a := n) (b := 1024) h (by decide)) K)
theorem xk_pack0 (h : x < 0 ∨ nI 1024 ≤ x) (K : post 0) : wpX_isPacked post x := br_c (fun _ => K) (fun z => br_t (mq_not h z) K)
variable {ywr ykn ymd yop yst yps ybs : Int32} {cn ef th tk dm st li yc yag ypl ybe : Nat → Int32}
theorem yk_task1 (h : n < 4) (K : post 1) : wpY_task post (ywr, ykn, ymd, yop, yst, yps, ybs, cn, ef, th, tk, dm, st, li, yc, yag, ypl, ybe) (nI n) := br_f (nI_pos (by omega)) (br_f (nI_nlt (a := 3) (b := n) (by omega) (by decide)) K)
theorem yk_task0 (h : x < 0 ∨ nI 4 ≤ x) (K : post 0) : wpY_task post (ywr, ykn, ymd, yop, yst, yps, ybs, cn, ef, th, tk, dm, st, li, yc, yag, ypl, ybe) x := br_c (fun _ => K) (fun z => br_t (mq_lt_of_le 3 (by decide) (mq_not h z)) K)
theorem yk_state1 (h : n < 32) (K : post 1) : wpY_isState post (ywr, ykn, ymd, yop, yst, yps, ybs, cn, ef, th, tk, dm, st, li, yc, yag, ypl, ybe) (nI n) := br_f (nI_pos (by omega)) (br_f (nI_nlt (a := 31) (b := n) (by omega) (by decide)) K)
theorem yk_state0 (h : x < 0 ∨ nI 32 ≤ x) (K : post 0) : wpY_isState post (ywr, ykn, ymd, yop, yst, yps, ybs, cn, ef, th, tk, dm, st, li, yc, yag, ypl, ybe) x := br_c (fun _ => K) (fun z => br_t (mq_lt_of_le 31 (by decide) (mq_not h z)) K)
theorem yk_pack1 (h : n < 1024) (K : post 1) : wpY_pair post (ywr, ykn, ymd, yop, yst, yps, ybs, cn, ef, th, tk, dm, st, li, yc, yag, ypl, ybe) (nI n) := br_f (nI_pos (by omega)) (br_f (nI_nlt (a := 1023) (b := n) (by omega) (by decide)) K)
theorem yk_pack0 (h : x < 0 ∨ nI 1024 ≤ x) (K : post 0) : wpY_pair post (ywr, ykn, ymd, yop, yst, yps, ybs, cn, ef, th, tk, dm, st, li, yc, yag, ypl, ybe) x := br_c (fun _ => K) (fun z => br_t (mq_lt_of_le 1023 (by decide) (mq_not h z)) K)
end
section
variable {xpr xsz xkn xsw xsl : Int32} {xsc : Int64} {cn ef th tk dm st li wc pl kw sa pcs : Nat → Int32} {pc : Nat → Int64}
theorem mq_F0 (E : Nat → Nat → List (List Nat × Nat)) (t s e : Nat) : mq_F E 0 t s e = mp_pe (E (8 + t) s) e := if_pos (Nat.zero_le _)
theorem xk_ways {post : Int32 → SX → Prop} {t s e : Nat} (w : mq_W th tk st) (B : mq_B xpr th) (hk : xkn = 0 ∨ mq_T wc pl pc (mq_F (mq_E cn ef th tk dm st) 0)) (ht : t < 4) (hs : s < 32) (he : e < 32)
    (K : ∀ xkn xsw xsl xsc wc pl pc, mq_T wc pl pc (mq_F (mq_E cn ef th tk dm st) 0) → post (nI (mp_pe ((mq_E cn ef th tk dm st) (8 + t) s) e).length) (xpr, xsz, xkn, xsw, xsl, xsc, cn, ef, tk, dm, (mq_fs st), (mq_ss st), li, wc, pl, pc, kw, sa, pcs)) : wpX_ways post (xpr, xsz, xkn, xsw, xsl, xsc, cn, ef, tk, dm, (mq_fs st), (mq_ss st), li, wc, pl, pc, kw, sa, pcs) (nI t) (nI s) (nI e) := by
  have i := mq_cl_lt ht hs he
  unfold wpX_ways
  refine xk_task1 ht (br_f (by decide) (xk_state1 hs (br_f (by decide) (xk_state1 he (br_f (by decide) (xk_learn w B hk (fun _ _ _ _ wc pl pc T => xk_cell (And.intro (vp_in_nI i (by decide)) ?_)))))))) 
  have r := (T t s e ht hs he).1.1.1
  rw [mq_F0] at r
  rw [nI_clamp (by omega), r]
  exact K _ _ _ _ _ _ _ T
theorem xk_all0 {post : Int32 → SX → Prop} {t s : Nat} (ht : t < 4) (hs : s < 32) (T : mq_T wc pl pc (mq_F (mq_E cn ef th tk dm st) 0)) (K : post (nI (mp_su (fun e => (mp_pe ((mq_E cn ef th tk dm st) (8 + t) s) e).length) 32)) (xpr, xsz, xkn, xsw, xsl, xsc, cn, ef, tk, dm, (mq_fs st), (mq_ss st), li, wc, pl, pc, kw, sa, pcs)) : ∀ d j n, j + d = 32 → d < n →
    wX_allWays_25 post (nI t) (nI s) xpr xsz xkn xsw xsl xsc cn ef tk dm (mq_fs st) (mq_ss st) li wc pl pc kw sa pcs n (nI (mp_su (fun e => (mp_pe ((mq_E cn ef th tk dm st) (8 + t) s) e).length) j)) (nI j) := by
  intro d
  induction d with
  | zero =>
    intro j n h1 h2
    obtain ⟨n, rfl⟩ : ∃ k, n = k + 1 := ⟨n - 1, by omega⟩
    have : j = 32 := by omega
    subst this
    exact br_t (nI_le (a := 32) (b := 32) (by omega) (by omega)) K
  | succ d ih =>
    intro j n h1 h2
    obtain ⟨n, rfl⟩ : ∃ k, n = k + 1 := ⟨n - 1, by omega⟩
    have hj : j < 32 := by omega
    have i := mq_cl_lt ht hs hj
    have r := (T t s j ht hs hj).1.1.1
    rw [mq_F0] at r
    refine pk_le 32 j (fun h => by omega) (fun _ => xk_cell (And.intro (vp_in_nI i (by decide)) (nm_r (e' := nI (mp_su (fun e => (mp_pe ((mq_E cn ef th tk dm st) (8 + t) s) e).length) (j + 1))) ?_ (nm_r (nI_1 j) (ih (j + 1) n (by omega) (by omega))))))
    rw [nI_clamp (by omega), r, nI_add]
    rfl
theorem xk_allWays {post : Int32 → SX → Prop} {t s : Nat} (w : mq_W th tk st) (B : mq_B xpr th) (hk : xkn = 0 ∨ mq_T wc pl pc (mq_F (mq_E cn ef th tk dm st) 0)) (ht : t < 4) (hs : s < 32)
    (K : ∀ xkn xsw xsl xsc wc pl pc, mq_T wc pl pc (mq_F (mq_E cn ef th tk dm st) 0) → post (nI ((mq_E cn ef th tk dm st) (8 + t) s).length) (xpr, xsz, xkn, xsw, xsl, xsc, cn, ef, tk, dm, (mq_fs st), (mq_ss st), li, wc, pl, pc, kw, sa, pcs)) : wpX_allWays post (xpr, xsz, xkn, xsw, xsl, xsc, cn, ef, tk, dm, (mq_fs st), (mq_ss st), li, wc, pl, pc, kw, sa, pcs) (nI t) (nI s) := by
  unfold wpX_allWays
  refine xk_task1 ht (br_f (by decide) (xk_state1 hs (br_f (by decide) (xk_learn w B hk (fun _ _ _ _ wc pl pc T => ⟨33, xk_all0 ht hs T ?_ 32 0 33 (by omega) (by omega)⟩)))))
  rw [mq_E_su w (by omega) (by omega) hs]
  exact K _ _ _ _ _ _ _ T
theorem xk_nx0 {post : Int32 → SX → Prop} {t s e : Nat} (w : mq_W th tk st) (ht : t < 4) (hs : s < 32) (he : e < 32) (T : mq_T wc pl pc (mq_F (mq_E cn ef th tk dm st) 0)) (K : ∀ l, mq_nx ((mq_E cn ef th tk dm st) (8 + t) s) e l → post l (xpr, xsz, xkn, xsw, xsl, xsc, cn, ef, tk, dm, (mq_fs st), (mq_ss st), li, wc, pl, pc, kw, sa, pcs)) : ∀ d j n, j + d = 32 → d < n → e ≤ j → (∀ x, x ∈ (mq_E cn ef th tk dm st) (8 + t) s → e ≤ x.2 → j ≤ x.2) →
    wX_nextEnd_30 post (nI t) (nI s) xpr xsz xkn xsw xsl xsc cn ef tk dm (mq_fs st) (mq_ss st) li wc pl pc kw sa pcs n (nI j) := by
  intro d
  induction d with
  | zero =>
    intro j n h1 h2 h3 h4
    obtain ⟨n, rfl⟩ : ∃ k, n = k + 1 := ⟨n - 1, by omega⟩
    have : j = 32 := by omega
    subst this
    refine br_t (nI_le (a := 32) (b := 32) (by omega) (by omega)) (K _ (Or.inl ⟨rfl, fun x hx => ?_⟩))
    have a := h4 x hx
    have b := (mq_E_ok w (by omega) (by omega) hs x hx).1
    omega
  | succ d ih =>
    intro j n h1 h2 h3 h4
    obtain ⟨n, rfl⟩ : ∃ k, n = k + 1 := ⟨n - 1, by omega⟩
    have hj : j < 32 := by omega
    have i := mq_cl_lt ht hs hj
    have r := (T t s j ht hs hj).1.1.1
    rw [mq_F0] at r
    have l := mq_pe_len2 (cn := cn) (ef := ef) (dm := dm) w (show 8 + t < 12 from by omega) s j
    refine pk_le 32 j (fun h => by omega) (fun _ => xk_cell (And.intro (vp_in_nI i (by decide)) ?_))
    rw [nI_clamp (by omega), r]
    refine pk_le (mp_pe ((mq_E cn ef th tk dm st) (8 + t) s) j).length 0 (fun h => nm_r (nI_1 j) (ih (j + 1) n (by omega) (by omega) (by omega) (fun x hx hx2 => ?_))) (fun h => K _ ?_)
    · have a := h4 x hx hx2
      by_cases q : x.2 = j
      · exfalso
        have m : x.1 ∈ mp_pe ((mq_E cn ef th tk dm st) (8 + t) s) j := mp_pe_mem.mpr (by rw [← q]; exact hx)
        have := List.length_pos_of_mem m
        omega
      · omega
    · obtain ⟨p, hp⟩ := List.exists_mem_of_length_pos h
      exact Or.inr ⟨j, hj, rfl, h3, ⟨_, mp_pe_mem.mp hp, rfl⟩, h4⟩
theorem xk_nextEnd {post : Int32 → SX → Prop} {t s e : Nat} (w : mq_W th tk st) (B : mq_B xpr th) (hk : xkn = 0 ∨ mq_T wc pl pc (mq_F (mq_E cn ef th tk dm st) 0)) (ht : t < 4) (hs : s < 32) (he : e < 32)
    (K : ∀ xkn xsw xsl xsc wc pl pc, mq_T wc pl pc (mq_F (mq_E cn ef th tk dm st) 0) → ∀ l, mq_nx ((mq_E cn ef th tk dm st) (8 + t) s) e l → post l (xpr, xsz, xkn, xsw, xsl, xsc, cn, ef, tk, dm, (mq_fs st), (mq_ss st), li, wc, pl, pc, kw, sa, pcs)) : wpX_nextEnd post (xpr, xsz, xkn, xsw, xsl, xsc, cn, ef, tk, dm, (mq_fs st), (mq_ss st), li, wc, pl, pc, kw, sa, pcs) (nI t) (nI s) (nI e) :=
  by
  unfold wpX_nextEnd
  exact xk_task1 ht (br_f (by decide) (xk_state1 hs (br_f (by decide) (xk_state1 he (br_f (by decide) (xk_learn w B hk (fun _ _ _ _ wc pl pc T => ⟨33, xk_nx0 w ht hs he T (K _ _ _ _ _ _ _ T) (32 - e) e 33 (by omega) (by omega) (Nat.le_refl _) (fun _ _ h => h)⟩)))))))
theorem xk_shortest {post : Int32 → SX → Prop} {t s e : Nat} (w : mq_W th tk st) (B : mq_B xpr th) (hk : xkn = 0 ∨ mq_T wc pl pc (mq_F (mq_E cn ef th tk dm st) 0)) (ht : t < 4) (hs : s < 32) (he : e < 32)
    (K0 : mp_pe ((mq_E cn ef th tk dm st) (8 + t) s) e = [] → ∀ xkn xsw xsl xsc wc pl pc, mq_T wc pl pc (mq_F (mq_E cn ef th tk dm st) 0) → post (-1) (xpr, xsz, xkn, xsw, xsl, xsc, cn, ef, tk, dm, (mq_fs st), (mq_ss st), li, wc, pl, pc, kw, sa, pcs))
    (K1 : ∀ a b, mp_bs (mp_pe ((mq_E cn ef th tk dm st) (8 + t) s) e) a b → ∀ xkn xsw xsl xsc wc pl pc, mq_T wc pl pc (mq_F (mq_E cn ef th tk dm st) 0) → post (nI a) (xpr, xsz, xkn, xsw, xsl, xsc, cn, ef, tk, dm, (mq_fs st), (mq_ss st), li, wc, pl, pc, kw, sa, pcs)) : wpX_shortest post (xpr, xsz, xkn, xsw, xsl, xsc, cn, ef, tk, dm, (mq_fs st), (mq_ss st), li, wc, pl, pc, kw, sa, pcs) (nI t) (nI s) (nI e) := by
  have i := mq_cl_lt ht hs he
  unfold wpX_shortest
  refine xk_task1 ht (br_f (by decide) (xk_state1 hs (br_f (by decide) (xk_state1 he (br_f (by decide) (xk_learn w B hk (fun _ _ _ _ wc pl pc T => xk_cell (And.intro (vp_in_nI i (by decide)) ?_)))))))) 
  obtain ⟨⟨⟨r1, r2⟩, r3⟩, wb⟩ := T t s e ht hs he
  rw [mq_F0] at r1 r2 r3 wb
  rw [nI_clamp (by omega)]
  by_cases z : mp_pe ((mq_E cn ef th tk dm st) (8 + t) s) e = []
  · exact nm_r (r3 z).1 (br_t rfl (K0 z _ _ _ _ _ _ _ T))
  · obtain ⟨a, b, e1, e2, bs⟩ := r2 z
    have := mp_bs_bd wb bs
    refine nm_r e1 (br_f (fun q => ?_) (K1 a b bs _ _ _ _ _ _ _ T))
    have := (nI_eq (b := 99) (by omega) (by decide)).mp q
    omega
theorem xk_dig {post : Int32 → SX → Prop} {i : Nat} : ∀ d b n, d < n → i + d < 2 ^ 31 → b < 2 ^ 63 → post (nI (b / 6 ^ d % 6)) (xpr, xsz, xkn, xsw, xsl, xsc, cn, ef, tk, dm, (mq_fs st), (mq_ss st), li, wc, pl, pc, kw, sa, pcs) → wX_planned_84 post (nI i) xpr xsz xkn xsw xsl xsc cn ef tk dm (mq_fs st) (mq_ss st) li wc pl pc kw sa pcs n (lN b) (nI (i + d)) := by
  intro d
  induction d with
  | zero =>
    intro b n hn hi hb K
    obtain ⟨n, rfl⟩ : ∃ k, n = k + 1 := ⟨n - 1, by omega⟩
    refine br_t (nI_le (Nat.le_refl _) hi) (And.intro (by decide) ?_)
    have e : lN b - lN b / 6 * 6 = lN (b % 6) := pk_lRem (b := 6) hb (by decide) (by decide)
    rw [e, lN_i]
    rw [Nat.pow_zero, Nat.div_one] at K
    exact K
  | succ d ih =>
    intro b n hn hi hb K
    obtain ⟨n, rfl⟩ : ∃ k, n = k + 1 := ⟨n - 1, by omega⟩
    refine br_f (nI_ge (a := i) (b := i + (d + 1)) (by omega) hi) (And.intro (by decide) (nm_r (e' := lN (b / 6)) (pk_lDiv (b := 6) hb (by decide) (by decide)) (nm_r (pk_m1 (i + d)) (ih (b / 6) n (by omega) (by omega) (Nat.lt_of_le_of_lt (Nat.div_le_self _ _) hb) ?_))))
    rw [Nat.div_div_eq_div_mul, ← Nat.pow_succ']
    exact K
theorem xk_planned {post : Int32 → SX → Prop} {t s e q : Nat} {p2 : Int32} (w : mq_W th tk st) (B : mq_B xpr th) (hk : xkn = 0 ∨ mq_T wc pl pc (mq_F (mq_E cn ef th tk dm st) 0)) (hq : q < 128) (et : q % 4 = t) (ee : q / 4 = e) (hs : s < 32)
    (K0 : (mp_pe ((mq_E cn ef th tk dm st) (8 + t) s) e = [] ∨ p2 < 0 ∨ ∃ a b, mp_bs (mp_pe ((mq_E cn ef th tk dm st) (8 + t) s) e) a b ∧ ¬ p2 < nI a) → ∀ xkn xsw xsl xsc wc pl pc, mq_T wc pl pc (mq_F (mq_E cn ef th tk dm st) 0) → post (-1) (xpr, xsz, xkn, xsw, xsl, xsc, cn, ef, tk, dm, (mq_fs st), (mq_ss st), li, wc, pl, pc, kw, sa, pcs))
    (K1 : ∀ a b i, mp_bs (mp_pe ((mq_E cn ef th tk dm st) (8 + t) s) e) a b → p2 = nI i → i < a → ∀ xkn xsw xsl xsc wc pl pc, mq_T wc pl pc (mq_F (mq_E cn ef th tk dm st) 0) → post (nI (b / 6 ^ (a - 1 - i) % 6)) (xpr, xsz, xkn, xsw, xsl, xsc, cn, ef, tk, dm, (mq_fs st), (mq_ss st), li, wc, pl, pc, kw, sa, pcs)) : wpX_planned post (xpr, xsz, xkn, xsw, xsl, xsc, cn, ef, tk, dm, (mq_fs st), (mq_ss st), li, wc, pl, pc, kw, sa, pcs) (nI q) (nI s) p2 := by
  have ht : t < 4 := by omega
  have he : e < 32 := by omega
  have i := mq_cl_lt ht hs he
  have iv : vp_in (nI (mq_cl t s e)) 4096 := vp_in_nI i (by decide)
  have e3 : nI q &&& 3 = nI t := by rw [pk_andN (by omega) 2 (by decide)]; exact congrArg nI et
  have e4 : nI q >>> ((2 : Int32) &&& 31) = nI e := by rw [pk_shrN (by omega) _ 2 (by decide)]; exact congrArg nI ee
  refine br_f (nI_pos (by omega)) (br_f (nI_nlt (a := 127) (b := q) (by omega) (by decide)) (xk_state1 hs (br_f (by decide) (xk_learn w B hk (fun _ _ _ _ wc pl pc T => ?_)))))
  show wpX_cell _ (nI q &&& 3) (nI s) (nI q >>> ((2 : Int32) &&& 31))
  rw [e3, e4]
  refine xk_cell (And.intro iv ?_)
  obtain ⟨⟨⟨r1, r2⟩, r3⟩, wb⟩ := T t s e ht hs he
  rw [mq_F0] at r1 r2 r3 wb
  rw [nI_clamp (show mq_cl t s e < 2 ^ 31 from by omega)]
  by_cases z : mp_pe ((mq_E cn ef th tk dm st) (8 + t) s) e = []
  · exact br_t (r3 z).1 (K0 (Or.inl z) _ _ _ _ _ _ _ T)
  · obtain ⟨a, b, e1, e2, bs⟩ := r2 z
    obtain ⟨b16, b43⟩ := mp_bs_bd wb bs
    rw [e1, e2]
    refine br_f (fun q => ?_) (br_c (fun n => K0 (Or.inr (Or.inl n)) _ _ _ _ _ _ _ T) (fun n => And.intro iv (br_c (fun l => ?_) (fun l => K0 (Or.inr (Or.inr ⟨a, b, bs, l⟩)) _ _ _ _ _ _ _ T))))
    · have := (nI_eq (b := 99) (by omega) (by decide)).mp q
      omega
    · obtain ⟨k, hk, rfl⟩ := nI_of n
      have hka : k < a := (nI_ltI hk (by omega)).mp l
      have em : nI a - 1 = nI (k + (a - 1 - k)) := by
        show nI a - nI 1 = _
        rw [pk_sub (by omega)]
        exact congrArg nI (by omega)
      exact And.intro iv (nm_e (And.intro iv (nm_r em ⟨17, xk_dig (a - 1 - k) b 17 (by omega) (by omega) (by omega) (K1 a b k bs rfl hka _ _ _ _ _ _ _ T)⟩)))
end
end
section
/-! the list: its pieces, the states along it; the component's walk over it -/
section
def mp_sl (l : Nat → Nat) : Nat → Nat → List Nat
  | _, 0 => []
  | i, d + 1 => l i :: mp_sl l (i + 1) d
theorem mp_sl_len (l : Nat → Nat) : ∀ d i, (mp_sl l i d).length = d := by
  intro d
  induction d with
  | zero => intro i; rfl
  | succ d ih => intro i; exact congrArg (· + 1) (ih (i + 1))
theorem mp_sl_app (l : Nat → Nat) (b : Nat) : ∀ a i, mp_sl l i (a + b) = mp_sl l i a ++ mp_sl l (i + a) b := by
  intro a
  induction a with
  | zero => intro i; rw [Nat.zero_add]; rfl
  | succ a ih =>
    intro i
    rw [show a + 1 + b = (a + b) + 1 from by omega]
    show l i :: mp_sl l (i + 1) (a + b) = l i :: (mp_sl l (i + 1) a ++ mp_sl l (i + (a + 1)) b)
    rw [ih, show i + 1 + a = i + (a + 1) from by omega]
theorem mp_sl_cut {l : Nat → Nat} {i d : Nat} {p q : List Nat} (h : p ++ q = mp_sl l i d) : p.length ≤ d ∧ p = mp_sl l i p.length ∧ q = mp_sl l (i + p.length) (d - p.length) := by
  have hl := congrArg List.length h
  rw [List.length_append, mp_sl_len] at hl
  have e : d = p.length + (d - p.length) := by omega
  rw [e, mp_sl_app] at h
  have := List.append_inj h (mp_sl_len l _ _).symm
  exact ⟨by omega, this.1, this.2⟩
def mp_sg (ch : Nat → Nat → Nat) (l : Nat → Nat) (s : Nat) : Nat → Nat
  | 0 => s
  | i + 1 => ch (l i) (mp_sg ch l s i)
variable {hc : Nat → Nat → Bool} {ch : Nat → Nat → Nat} {l : Nat → Nat} {s n : Nat}
theorem mp_ex_sl : ∀ d i, (∀ k, k < i + d → hc (l k) (mp_sg ch l s k) = true) → mp_ex hc ch (mp_sl l i d) (mp_sg ch l s i) = some (mp_sg ch l s (i + d)) := by
  intro d
  induction d with
  | zero => intro i _; rfl
  | succ d ih =>
    intro i h
    show (if _ then _ else _) = _
    rw [if_pos (h i (by omega))]
    have := ih (i + 1) (fun k hk => h k (by omega))
    rw [show i + 1 + d = i + (d + 1) from by omega] at this
    exact this
theorem mp_ex_all {e : Nat} : ∀ d i, mp_ex hc ch (mp_sl l i d) (mp_sg ch l s i) = some e → ∀ k, i ≤ k → k < i + d → hc (l k) (mp_sg ch l s k) = true := by
  intro d
  induction d with
  | zero => intro i _ k h1 h2; omega
  | succ d ih =>
    intro i h k h1 h2
    have h' : (if hc (l i) (mp_sg ch l s i) = true then mp_ex hc ch (mp_sl l (i + 1) d) (mp_sg ch l s (i + 1)) else none) = some e := h
    by_cases o : hc (l i) (mp_sg ch l s i) = true
    · rw [if_pos o] at h'
      by_cases q : k = i
      · rw [q]; exact o
      · exact ih (i + 1) h' k (by omega) (by omega)
    · rw [if_neg o] at h'
      exact nomatch h'
theorem mp_sg_lt (hch : ∀ a s, s < 32 → ch a s < 32) (hs : s < 32) : ∀ i, mp_sg ch l s i < 32 := by
  intro i
  induction i with
  | zero => exact hs
  | succ i ih => exact hch _ _ ih
/-- step v can account for the piece from i to j -/
def mp_cv (E : Nat → Nat → List (List Nat × Nat)) (l g : Nat → Nat) (v i j : Nat) : Prop := ∃ e, (mp_sl l i (j - i), e) ∈ E v (g i)
end
section
variable {xpr xsz xkn xsw xsl : Int32} {xsc : Int64} {cn ef th tk dm st li wc pl kw sa pcs : Nat → Int32} {pc : Nat → Int64}
def mq_l (li : Nat → Int32) (i : Nat) : Nat := (li i).toNatClampNeg
def mq_li (li : Nat → Int32) (n : Nat) : Prop := ∀ i, i < n → ∃ d, d < 6 ∧ li i = nI d
theorem mq_li_e {n i : Nat} (h : mq_li li n) (hi : i < n) : li i = nI (mq_l li i) ∧ mq_l li i < 6 := by
  obtain ⟨d, hd, e⟩ := h i hi
  unfold mq_l
  rw [e, nI_clamp (by omega)]
  exact ⟨rfl, hd⟩
theorem mp_cov (w : mq_W th tk st) {l : Nat → Nat} {s n t i j : Nat} (hs : s < 32) (ht : t < 4) (hw : ∀ k, k < n → mq_hc cn (l k) (mp_sg (mq_ch ef) l s k) = true) (hij : i ≤ j) (hj : j ≤ n) :
    mp_cv (mq_E cn ef th tk dm st) l (mp_sg (mq_ch ef) l s) (8 + t) i j ↔ ∃ m, m < 8 ∧ mq_ok th tk dm t m (mp_sg (mq_ch ef) l s i) = true ∧ ∃ k, i ≤ k ∧ k ≤ j ∧ mp_cv (mq_E cn ef th tk dm st) l (mp_sg (mq_ch ef) l s) (mq_s1 st m) i k ∧ mp_cv (mq_E cn ef th tk dm st) l (mp_sg (mq_ch ef) l s) (mq_s2 st m) k j := by
  have lt := mp_sg_lt (l := l) (mq_ch_lt (ef := ef)) hs
  have eE : (mq_E cn ef th tk dm st) (8 + t) (mp_sg (mq_ch ef) l s i) = _ := mp_fix (mq_wf w) ht _
  constructor
  · rintro ⟨e, h⟩
    rw [eE] at h
    obtain ⟨m, hm, h⟩ := List.mem_flatMap.mp h
    have hm := List.mem_range.mp hm
    by_cases o : mq_ok th tk dm t m (mp_sg (mq_ch ef) l s i) = true
    · rw [if_pos o] at h
      obtain ⟨x, hx, h⟩ := List.mem_flatMap.mp h
      obtain ⟨y, hy, h⟩ := List.mem_map.mp h
      obtain ⟨h1, h2⟩ := Prod.mk.inj h
      obtain ⟨c1, c2, c3⟩ := mp_sl_cut h1
      obtain ⟨w1, w2⟩ := mq_wf (dm := dm) w t m _ ht hm o
      unfold mp_sk at w1 w2
      have ex := (mq_E_ok w (by omega) (by omega) (lt i) x hx).2.2.2
      rw [c2, mp_ex_sl _ _ (fun k hk => hw k (by omega))] at ex
      have ex := Option.some.inj ex
      refine ⟨m, hm, o, i + x.1.length, by omega, by omega, ⟨x.2, ?_⟩, ⟨y.2, ?_⟩⟩
      · rw [show i + x.1.length - i = x.1.length from by omega, ← c2]
        exact hx
      · rw [show j - (i + x.1.length) = j - i - x.1.length from by omega, ← c3, ex]
        exact hy
    · rw [if_neg o] at h
      exact nomatch h
  · rintro ⟨m, hm, o, k, hk1, hk2, ⟨e1, h1⟩, ⟨e2, h2⟩⟩
    obtain ⟨w1, w2⟩ := mq_wf (dm := dm) w t m _ ht hm o
    unfold mp_sk at w1 w2
    have ex := (mq_E_ok w (by omega) (by omega) (lt i) _ h1).2.2.2
    rw [mp_ex_sl _ _ (fun k' hk' => hw k' (by omega)), show i + (k - i) = k from by omega] at ex
    have ex := Option.some.inj ex
    refine ⟨e2, ?_⟩
    rw [eE]
    refine List.mem_flatMap.mpr ⟨m, List.mem_range.mpr hm, ?_⟩
    rw [if_pos o]
    refine List.mem_flatMap.mpr ⟨_, h1, List.mem_map.mpr ⟨(mp_sl l k (j - k), e2), ?_, ?_⟩⟩
    · show _ ∈ (mq_E cn ef th tk dm st) (mq_s2 st m) e1
      have ex' : e1 = mp_sg (mq_ch ef) l s k := ex.symm
      rw [ex']
      exact h2
    · rw [show j - i = (k - i) + (j - k) from by omega, mp_sl_app, show i + (k - i) = k from by omega]
theorem xk_walk0 {post : Int32 → SX → Prop} {s n : Nat} (h8 : n ≤ 8) (hl : mq_li li n) (hs : s < 32)
    (K1 : (∀ i, i < n → mq_hc cn (mq_l li i) (mp_sg (mq_ch ef) (mq_l li) s i) = true) → ∀ sa, (∀ i, i ≤ n → sa i = nI (mp_sg (mq_ch ef) (mq_l li) s i)) → post 1 (xpr, nI n, xkn, xsw, xsl, xsc, cn, ef, tk, dm, (mq_fs st), (mq_ss st), li, wc, pl, pc, kw, sa, pcs))
    (K0 : (∃ i, i < n ∧ ¬ mq_hc cn (mq_l li i) (mp_sg (mq_ch ef) (mq_l li) s i) = true) → ∀ sa, post 0 (xpr, nI n, xkn, xsw, xsl, xsc, cn, ef, tk, dm, (mq_fs st), (mq_ss st), li, wc, pl, pc, kw, sa, pcs)) :
    ∀ d j k sa, j + d = n → d < k → (∀ i, i < j → mq_hc cn (mq_l li i) (mp_sg (mq_ch ef) (mq_l li) s i) = true) → (∀ i, i ≤ j → sa i = nI (mp_sg (mq_ch ef) (mq_l li) s i)) →
      wX_walk_10 post xpr (nI n) xkn xsw xsl xsc k (nI j) cn ef tk dm (mq_fs st) (mq_ss st) li wc pl pc kw sa pcs := by
  have lt := mp_sg_lt (l := mq_l li) (mq_ch_lt (ef := ef)) hs
  intro d
  induction d with
  | zero =>
    intro j k sa h1 h2 H G
    obtain ⟨k, rfl⟩ : ∃ k', k = k' + 1 := ⟨k - 1, by omega⟩
    have : j = n := by omega
    subst this
    exact br_t (nI_le (Nat.le_refl _) (by omega)) (K1 H sa G)
  | succ d ih =>
    intro j k sa h1 h2 H G
    obtain ⟨k, rfl⟩ : ∃ k', k = k' + 1 := ⟨k - 1, by omega⟩
    obtain ⟨e, l6⟩ := mq_li_e hl (show j < n from by omega)
    have iv8 : vp_in (nI j) 8 := vp_in_nI (by omega) (by decide)
    have iv9 : vp_in (nI j) 9 := vp_in_nI (by omega) (by decide)
    have ej : (nI j).toNatClampNeg = j := nI_clamp (by omega)
    have el : (nI (mq_l li j)).toNatClampNeg = mq_l li j := nI_clamp (by omega)
    refine br_f (nI_ge (a := j) (b := n) (by omega) (by omega)) (And.intro iv8 ?_)
    rw [nI_1 j, ej, e, G j (Nat.le_refl _), el]
    refine And.intro (vp_in_nI l6 (by decide)) (And.intro iv9 (xk_holds (fun o => br_f (by decide) (And.intro iv8 (And.intro iv9 (xk_apply l6 (lt j) (And.intro (vp_in_nI (by omega) (by decide)) (nm_r (e' := upd sa (j + 1) (nI (mp_sg (mq_ch ef) (mq_l li) s (j + 1)))) ?_ (nm_e (ih (j + 1) k _ (by omega) (by omega) (fun i hi => ?_) (fun i hi => ?_))))))))) (fun o => br_t rfl (K0 ⟨j, by omega, ?_⟩ _))))
    · rw [nI_clamp (by omega), mq_nb (Nat.lt_trans (mq_ch_lt _ _ (lt j)) (by decide))]
      rfl
    · by_cases q : i = j
      · rw [q]; exact o
      · exact H i (by omega)
    · by_cases q : i = j + 1
      · rw [q, pk_us]
      · rw [pk_un q]; exact G i (by omega)
    · rw [show mq_hc cn (mq_l li j) (mp_sg (mq_ch ef) (mq_l li) s j) = false from o]
      decide
theorem xk_walk {post : Int32 → SX → Prop} {s n : Nat} (h8 : n ≤ 8) (hl : mq_li li n) (hs : s < 32)
    (K1 : (∀ i, i < n → mq_hc cn (mq_l li i) (mp_sg (mq_ch ef) (mq_l li) s i) = true) → ∀ sa, (∀ i, i ≤ n → sa i = nI (mp_sg (mq_ch ef) (mq_l li) s i)) → post 1 (xpr, nI n, xkn, xsw, xsl, xsc, cn, ef, tk, dm, (mq_fs st), (mq_ss st), li, wc, pl, pc, kw, sa, pcs))
    (K0 : (∃ i, i < n ∧ ¬ mq_hc cn (mq_l li i) (mp_sg (mq_ch ef) (mq_l li) s i) = true) → ∀ sa, post 0 (xpr, nI n, xkn, xsw, xsl, xsc, cn, ef, tk, dm, (mq_fs st), (mq_ss st), li, wc, pl, pc, kw, sa, pcs)) : wpX_walk post (xpr, nI n, xkn, xsw, xsl, xsc, cn, ef, tk, dm, (mq_fs st), (mq_ss st), li, wc, pl, pc, kw, sa, pcs) (nI s) := by
  refine nm_r (e' := upd sa 0 (nI s)) (by rw [mq_nb (by omega)]) ⟨9, xk_walk0 h8 hl hs K1 K0 n 0 9 _ (by omega) (by omega) (fun i hi => absurd hi (Nat.not_lt_zero _)) (fun i hi => ?_)⟩
  have : i = 0 := by omega
  rw [this, pk_us]
  rfl
def mq_pi (t i j : Nat) : Nat := (t * 9 + i) * 9 + j
def mq_P (E : Nat → Nat → List (List Nat × Nat)) (l g : Nat → Nat) (pcs : Nat → Int32) (t i j : Nat) : Prop := (pcs (mq_pi t i j) = 1 ∧ mp_cv E l g (8 + t) i j) ∨ (pcs (mq_pi t i j) = 0 ∧ ¬ mp_cv E l g (8 + t) i j)
theorem mq_pi_e (t i j : Nat) : (((nI t * 9) + nI i) * 9) + nI j = nI (mq_pi t i j) := by
  show (((nI t * nI 9) + nI i) * nI 9) + nI j = nI (mq_pi t i j)
  rw [pk_mul, nI_add, pk_mul, nI_add]
  rfl
theorem xk_stepC {post : Int32 → Prop} {s n v i j : Nat} (h8 : n ≤ 8) (hl : mq_li li n) (hij : i ≤ j) (hj : j ≤ n) (hv : v < 12) (h7 : v ≠ 7)
    (hw : ∀ i, i < n → mq_hc cn (mq_l li i) (mp_sg (mq_ch ef) (mq_l li) s i) = true)
    (hP : 8 ≤ v → mq_P (mq_E cn ef th tk dm st) (mq_l li) (mp_sg (mq_ch ef) (mq_l li) s) pcs (v - 8) i j)
    (K1 : mp_cv (mq_E cn ef th tk dm st) (mq_l li) (mp_sg (mq_ch ef) (mq_l li) s) v i j → post 1) (K0 : ¬ mp_cv (mq_E cn ef th tk dm st) (mq_l li) (mp_sg (mq_ch ef) (mq_l li) s) v i j → post 0) :
    wpX_stepCovers post (xpr, xsz, xkn, xsw, xsl, xsc, cn, ef, tk, dm, (mq_fs st), (mq_ss st), li, wc, pl, pc, kw, sa, pcs) (nI v) (nI i) (nI j) := by
  refine pk_lt v 8 (fun h => ?_) (fun h => ?_)
  · have eE : (mq_E cn ef th tk dm st) v (mp_sg (mq_ch ef) (mq_l li) s i) = mp_act (mq_hc cn) (mq_ch ef) v (mp_sg (mq_ch ef) (mq_l li) s i) := mp_fix0 h _
    unfold mp_cv at K1 K0
    rw [eE] at K1 K0
    unfold mp_act at K1 K0
    refine pk_eq v 0 (fun z => ?_) (fun z => ?_)
    · rw [if_pos z] at K1 K0
      refine pk_eq i j (fun q => K1 ⟨mp_sg (mq_ch ef) (mq_l li) s i, ?_⟩) (fun q => K0 ?_)
      · rw [q, Nat.sub_self]
        exact List.mem_cons_self
      · rintro ⟨e, he⟩
        have := congrArg (fun x => x.1.length) (List.mem_singleton.mp he)
        dsimp only at this
        rw [mp_sl_len, List.length_nil] at this
        omega
    · obtain ⟨a, rfl⟩ : ∃ a, v = a + 1 := ⟨v - 1, by omega⟩
      rw [if_neg z, show a + 1 - 1 = a from by omega] at K1 K0
      rw [nI_pred, nI_1]
      refine pk_eq j (i + 1) (fun q => And.intro (vp_in_nI (by omega) (by decide)) ?_) (fun q => K0 ?_)
      · obtain ⟨e, l6⟩ := mq_li_e hl (show i < n from by omega)
        have s1 : mp_sl (mq_l li) i (j - i) = [mq_l li i] := by
          rw [show j - i = 1 from by omega]
          rfl
        rw [s1] at K1 K0
        rw [nI_clamp (by omega), e]
        refine pk_eq (mq_l li i) a (fun r => K1 ?_) (fun r => K0 ?_)
        · have o := hw i (by omega)
          rw [r] at o ⊢
          rw [if_pos o]
          exact ⟨_, List.mem_cons_self⟩
        · rintro ⟨e, he⟩
          by_cases o : mq_hc cn a (mp_sg (mq_ch ef) (mq_l li) s i) = true
          · rw [if_pos o] at he
            have := congrArg (fun x => x.1) (List.mem_singleton.mp he)
            exact r (List.cons.inj this).1
          · rw [if_neg o] at he
            exact nomatch he
      · rintro ⟨e, he⟩
        by_cases o : mq_hc cn a (mp_sg (mq_ch ef) (mq_l li) s i) = true
        · rw [if_pos o] at he
          have := congrArg (fun x => x.1.length) (List.mem_singleton.mp he)
          dsimp only at this
          rw [mp_sl_len] at this
          have : j - i = 1 := this
          omega
        · rw [if_neg o] at he
          exact nomatch he
  · obtain ⟨t, rfl⟩ : ∃ t, v = 8 + t := ⟨v - 8, by omega⟩
    have P := hP h
    rw [show 8 + t - 8 = t from by omega] at P
    have e8 : nI (8 + t) - 8 = nI t := by
      show nI (8 + t) - nI 8 = nI t
      rw [pk_sub (by omega)]
      exact congrArg nI (by omega)
    have lt : mq_pi t i j < 324 := by unfold mq_pi; omega
    rw [e8, mq_pi_e, nI_clamp (by omega)]
    rcases P with ⟨p1, p2⟩ | ⟨p1, p2⟩
    · rw [p1]
      exact And.intro (vp_in_nI lt (by decide)) (And.intro narrow_b1 (K1 p2))
    · rw [p1]
      exact And.intro (vp_in_nI lt (by decide)) (And.intro narrow_b0 (K0 p2))
end
end
section
/-! the component's walk: accounts, after, doable, useless -/
section
variable {xpr xsz xkn xsw xsl : Int32} {xsc : Int64} {cn ef th tk dm st li wc pl kw sa pcs : Nat → Int32} {pc : Nat → Int64}
def mq_C (E : Nat → Nat → List (List Nat × Nat)) (l g s1 s2 : Nat → Nat) (m i j : Nat) : Prop := ∃ k, i ≤ k ∧ k ≤ j ∧ mp_cv E l g (s1 m) i k ∧ mp_cv E l g (s2 m) k j
theorem xk_mC0 {post : Int32 → Prop} {s n t m i j : Nat} (w : mq_W th tk st) (h8 : n ≤ 8) (hl : mq_li li n) (hij : i ≤ j) (hj : j ≤ n) (hm : m < 8)
    (k1 : mp_sk t (mq_s1 st m)) (k2 : mp_sk t (mq_s2 st m)) (e1 : mq_fs st m = nI (mq_s1 st m)) (e2 : mq_ss st m = nI (mq_s2 st m))
    (hw : ∀ i, i < n → mq_hc cn (mq_l li i) (mp_sg (mq_ch ef) (mq_l li) s i) = true)
    (hP : ∀ a b c, t < a → a < 4 → b ≤ c → c ≤ n → mq_P (mq_E cn ef th tk dm st) (mq_l li) (mp_sg (mq_ch ef) (mq_l li) s) pcs a b c)
    (K1 : mq_C (mq_E cn ef th tk dm st) (mq_l li) (mp_sg (mq_ch ef) (mq_l li) s) (mq_s1 st) (mq_s2 st) m i j → post 1) (K0 : ¬ mq_C (mq_E cn ef th tk dm st) (mq_l li) (mp_sg (mq_ch ef) (mq_l li) s) (mq_s1 st) (mq_s2 st) m i j → post 0) :
    ∀ d k f, k + d = j + 1 → d < f → i ≤ k → (∀ q, i ≤ q → q < k → ¬ (mp_cv (mq_E cn ef th tk dm st) (mq_l li) (mp_sg (mq_ch ef) (mq_l li) s) (mq_s1 st m) i q ∧ mp_cv (mq_E cn ef th tk dm st) (mq_l li) (mp_sg (mq_ch ef) (mq_l li) s) (mq_s2 st m) q j)) →
      wX_methodCovers_23 post (nI m) (nI i) (nI j) xpr xsz xkn xsw xsl xsc cn ef tk dm (mq_fs st) (mq_ss st) li wc pl pc kw sa pcs f (nI k) := by
  intro d
  induction d with
  | zero =>
    intro k f h1 h2 h3 H
    obtain ⟨f, rfl⟩ : ∃ k', f = k' + 1 := ⟨f - 1, by omega⟩
    refine br_t (nI_lt (by omega) (by omega)) (K0 ?_)
    rintro ⟨q, q1, q2, q3, q4⟩
    exact H q q1 (by omega) ⟨q3, q4⟩
  | succ d ih =>
    intro k f h1 h2 h3 H
    obtain ⟨f, rfl⟩ : ∃ k', f = k' + 1 := ⟨f - 1, by omega⟩
    have iv : vp_in (nI m) 8 := vp_in_nI hm (by decide)
    have em : (nI m).toNatClampNeg = m := nI_clamp (by omega)
    have k1' := k1
    have k2' := k2
    unfold mp_sk at k1' k2'
    have next : ¬ (mp_cv (mq_E cn ef th tk dm st) (mq_l li) (mp_sg (mq_ch ef) (mq_l li) s) (mq_s1 st m) i k ∧ mp_cv (mq_E cn ef th tk dm st) (mq_l li) (mp_sg (mq_ch ef) (mq_l li) s) (mq_s2 st m) k j) → wX_methodCovers_23 post (nI m) (nI i) (nI j) xpr xsz xkn xsw xsl xsc cn ef tk dm (mq_fs st) (mq_ss st) li wc pl pc kw sa pcs f (nI (k + 1)) := by
      intro N
      refine ih (k + 1) f (by omega) (by omega) (by omega) (fun q q1 q2 => ?_)
      by_cases z : q = k
      · rw [z]; exact N
      · exact H q q1 (by omega)
    refine br_f (nI_nlt (by omega) (by omega)) (And.intro iv ?_)
    rw [em, e1]
    refine xk_stepC (th := th) (tk := tk) h8 hl h3 (show k ≤ n from by omega) (by omega) (by omega) hw (fun v8 => hP _ _ _ (by omega) (by omega) h3 (by omega)) (fun c1 => br_f (by decide) (And.intro iv ?_)) (fun c1 => br_t rfl (nm_r (nI_1 k) (next (fun z => c1 z.1))))
    rw [e2]
    exact xk_stepC (th := th) (tk := tk) h8 hl (show k ≤ j from by omega) hj (by omega) (by omega) hw (fun v8 => hP _ _ _ (by omega) (by omega) (by omega) hj) (fun c2 => br_f (by decide) (K1 ⟨k, h3, by omega, c1, c2⟩)) (fun c2 => br_t rfl (nm_r (nI_1 k) (next (fun z => c2 z.2))))
theorem xk_tC0 {post : Int32 → Prop} {s n t i j : Nat} (w : mq_W th tk st) (B : mq_B xpr th) (h8 : n ≤ 8) (hl : mq_li li n) (ht : t < 4) (hs : s < 32) (hij : i ≤ j) (hj : j ≤ n)
    (hw : ∀ i, i < n → mq_hc cn (mq_l li i) (mp_sg (mq_ch ef) (mq_l li) s i) = true) (hsa : ∀ i, i ≤ n → sa i = nI (mp_sg (mq_ch ef) (mq_l li) s i))
    (hP : ∀ a b c, t < a → a < 4 → b ≤ c → c ≤ n → mq_P (mq_E cn ef th tk dm st) (mq_l li) (mp_sg (mq_ch ef) (mq_l li) s) pcs a b c)
    (K1 : mp_cv (mq_E cn ef th tk dm st) (mq_l li) (mp_sg (mq_ch ef) (mq_l li) s) (8 + t) i j → post 1) (K0 : ¬ mp_cv (mq_E cn ef th tk dm st) (mq_l li) (mp_sg (mq_ch ef) (mq_l li) s) (8 + t) i j → post 0) :
    ∀ d m f, m + d = 8 → d < f → (∀ q, q < m → ¬ (mq_ok th tk dm t q (mp_sg (mq_ch ef) (mq_l li) s i) = true ∧ mq_C (mq_E cn ef th tk dm st) (mq_l li) (mp_sg (mq_ch ef) (mq_l li) s) (mq_s1 st) (mq_s2 st) q i j)) →
      wX_taskCovers_3 post (nI t) (nI i) (nI j) xpr xsz xkn xsw xsl xsc cn ef tk dm (mq_fs st) (mq_ss st) li wc pl pc kw sa pcs f (nI m) := by
  have cov := mp_cov (cn := cn) (dm := dm) w (l := mq_l li) hs ht hw hij hj
  intro d
  induction d with
  | zero =>
    intro m f h1 h2 H
    obtain ⟨f, rfl⟩ : ∃ k', f = k' + 1 := ⟨f - 1, by omega⟩
    have : m = 8 := by omega
    subst this
    refine br_t (nI_le (a := 8) (b := 8) (by omega) (by omega)) (K0 (fun z => ?_))
    obtain ⟨q, q1, q2, q3⟩ := cov.mp z
    exact H q q1 ⟨q2, q3⟩
  | succ d ih =>
    intro m f h1 h2 H
    obtain ⟨f, rfl⟩ : ∃ k', f = k' + 1 := ⟨f - 1, by omega⟩
    have hm : m < 8 := by omega
    have iv : vp_in (nI m) 8 := vp_in_nI hm (by decide)
    have iv9 : vp_in (nI i) 9 := vp_in_nI (by omega) (by decide)
    have em : (nI m).toNatClampNeg = m := nI_clamp (by omega)
    have ei : (nI i).toNatClampNeg = i := nI_clamp (by omega)
    have next : ¬ (mq_ok th tk dm t m (mp_sg (mq_ch ef) (mq_l li) s i) = true ∧ mq_C (mq_E cn ef th tk dm st) (mq_l li) (mp_sg (mq_ch ef) (mq_l li) s) (mq_s1 st) (mq_s2 st) m i j) → wX_taskCovers_3 post (nI t) (nI i) (nI j) xpr xsz xkn xsw xsl xsc cn ef tk dm (mq_fs st) (mq_ss st) li wc pl pc kw sa pcs f (nI (m + 1)) := by
      intro N
      refine ih (m + 1) f (by omega) (by omega) (fun q q1 => ?_)
      by_cases z : q = m
      · rw [z]; exact N
      · exact H q (by omega)
    refine pk_le 8 m (fun h => by omega) (fun _ => xk_has B hm (fun o1 => br_f (by decide) (And.intro iv ?_)) (fun z => br_t rfl (nm_r (nI_1 m) (next (fun q => (mq_ok_iff.mp q.1).1 z)))))
    rw [em]
    refine br_c (fun o2 => ?_) (fun o2 => nm_r (nI_1 m) (next (fun q => o2 (mq_ok_iff.mp q.1).2.1)))
    obtain ⟨t', ht', et, k1, k2, e1, e2⟩ := w m hm o1
    have tt : t' = t := (nI_eq (by omega) (by omega)).mp (et.symm.trans o2)
    subst tt
    refine And.intro iv (And.intro iv9 ?_)
    rw [em, ei, hsa i (by omega)]
    refine xk_holds (fun o3 => br_f (by decide) ⟨10, ?_⟩) (fun o3 => br_t rfl (br_t rfl (nm_r (nI_1 m) (next (fun q => ?_)))))
    · have o : mq_ok th tk dm t' m (mp_sg (mq_ch ef) (mq_l li) s i) = true := mq_ok_iff.mpr ⟨o1, o2, o3⟩
      exact xk_mC0 w h8 hl hij hj hm k1 k2 e1 e2 hw hP (fun c => br_f (by decide) (K1 (cov.mpr ⟨m, hm, o, c⟩))) (fun c => br_t rfl (nm_r (nI_1 m) (next (fun q => c q.2)))) (j + 1 - i) i 10 (by omega) (by omega) (Nat.le_refl _) (fun q q1 q2 => by omega)
    · have := (mq_ok_iff.mp q.1).2.2
      rw [o3] at this
      exact nomatch this
theorem mq_pi_ne {t i j t' i' j' : Nat} (hi : i < 9) (hj : j < 9) (hi' : i' < 9) (hj' : j' < 9) (h : ¬ (t' = t ∧ i' = i ∧ j' = j)) : mq_pi t' i' j' ≠ mq_pi t i j := by unfold mq_pi; omega
theorem mq_P_upd {E : Nat → Nat → List (List Nat × Nat)} {l g : Nat → Nat} {t i j a b c : Nat} {x : Int32} (hi : i < 9) (hj : j < 9) (hb : b < 9) (hc : c < 9) (h : ¬ (a = t ∧ b = i ∧ c = j)) (P : mq_P E l g pcs a b c) : mq_P E l g (upd pcs (mq_pi t i j) x) a b c := by
  unfold mq_P at *
  rw [pk_un (mq_pi_ne hi hj hb hc h)]
  exact P
/-- the pieces of greater tasks, and those of t ahead of (i, j) -/
def mq_I (E : Nat → Nat → List (List Nat × Nat)) (l g : Nat → Nat) (n t : Nat) (pcs : Nat → Int32) (i j : Nat) : Prop := (∀ a b c, t < a → a < 4 → b ≤ c → c ≤ n → mq_P E l g pcs a b c) ∧ (∀ b c, b ≤ c → c ≤ n → (b < i ∨ (b = i ∧ c < j)) → mq_P E l g pcs t b c)
theorem xk_cp1 {post : SX → Prop} {J : Int32 → (Nat → Int32) → (Nat → Int32) → (Nat → Int32) → (Nat → Int32) → (Nat → Int32) → (Nat → Int32) → (Nat → Int32) → (Nat → Int32) → (Nat → Int32) → (Nat → Int64) → (Nat → Int32) → (Nat → Int32) → (Nat → Int32) → Prop}
    {s n t i : Nat} (w : mq_W th tk st) (B : mq_B xpr th) (h8 : n ≤ 8) (hl : mq_li li n) (ht : t < 4) (hs : s < 32) (hi : i ≤ n)
    (hw : ∀ i, i < n → mq_hc cn (mq_l li i) (mp_sg (mq_ch ef) (mq_l li) s i) = true) (hsa : ∀ i, i ≤ n → sa i = nI (mp_sg (mq_ch ef) (mq_l li) s i))
    (K : ∀ pcs, mq_I (mq_E cn ef th tk dm st) (mq_l li) (mp_sg (mq_ch ef) (mq_l li) s) n t pcs (i + 1) 0 → J (nI (i + 1)) cn ef tk dm (mq_fs st) (mq_ss st) li wc pl pc kw sa pcs) :
    ∀ d j f pcs, j + d = n + 1 → d < f → i ≤ j → mq_I (mq_E cn ef th tk dm st) (mq_l li) (mp_sg (mq_ch ef) (mq_l li) s) n t pcs i j → wX_coverPieces_12 post J (nI t) (nI i) xpr (nI n) xkn xsw xsl xsc f (nI j) cn ef tk dm (mq_fs st) (mq_ss st) li wc pl pc kw sa pcs := by
  intro d
  induction d with
  | zero =>
    intro j f pcs h1 h2 h3 I
    obtain ⟨f, rfl⟩ : ∃ k', f = k' + 1 := ⟨f - 1, by omega⟩
    exact br_t (nI_lt (by omega) (by omega)) (nm_r (nI_1 i) (K _ ⟨I.1, fun b c b1 b2 b3 => I.2 b c b1 b2 (by omega)⟩))
  | succ d ih =>
    intro j f pcs h1 h2 h3 I
    obtain ⟨f, rfl⟩ : ∃ k', f = k' + 1 := ⟨f - 1, by omega⟩
    have lt : mq_pi t i j < 324 := by unfold mq_pi; omega
    have iv : vp_in ((((nI t * 9) + nI i) * 9) + nI j) 324 := by rw [mq_pi_e]; exact vp_in_nI lt (by decide)
    have ec : ((((nI t * 9) + nI i) * 9) + nI j).toNatClampNeg = mq_pi t i j := by rw [mq_pi_e, nI_clamp (by omega)]
    have step : ∀ x : Int32, ((x = 1 ∧ mp_cv (mq_E cn ef th tk dm st) (mq_l li) (mp_sg (mq_ch ef) (mq_l li) s) (8 + t) i j) ∨ (x = 0 ∧ ¬ mp_cv (mq_E cn ef th tk dm st) (mq_l li) (mp_sg (mq_ch ef) (mq_l li) s) (8 + t) i j)) → mq_I (mq_E cn ef th tk dm st) (mq_l li) (mp_sg (mq_ch ef) (mq_l li) s) n t (upd pcs (mq_pi t i j) x) i (j + 1) := by
      intro x hx
      refine ⟨fun a b c a1 a2 a3 a4 => mq_P_upd (by omega) (by omega) (by omega) (by omega) (by omega) (I.1 a b c a1 a2 a3 a4), fun b c b1 b2 b3 => ?_⟩
      by_cases z : b = i ∧ c = j
      · obtain ⟨rfl, rfl⟩ := z
        unfold mq_P
        rw [pk_us]
        exact hx
      · exact mq_P_upd (by omega) (by omega) (by omega) (by omega) (by omega) (I.2 b c b1 b2 (by omega))
    refine br_f (nI_nlt (by omega) (by omega)) ⟨9, xk_tC0 w B h8 hl ht hs h3 (show j ≤ n from by omega) hw hsa I.1 (fun c => And.intro iv (nm_r (e' := upd pcs (mq_pi t i j) 1) (by rw [ec, mq_nz1]) (nm_r (nI_1 j) (ih (j + 1) f _ (by omega) (by omega) (by omega) (step 1 (Or.inl ⟨rfl, c⟩)))))) (fun c => And.intro iv (nm_r (e' := upd pcs (mq_pi t i j) 0) (by rw [ec, mq_nz0]) (nm_r (nI_1 j) (ih (j + 1) f _ (by omega) (by omega) (by omega) (step 0 (Or.inr ⟨rfl, c⟩)))))) 8 0 9 (by omega) (by omega) (fun q q1 => absurd q1 (Nat.not_lt_zero _))⟩
theorem xk_cp2 {post : SX → Prop} {s n t : Nat} (w : mq_W th tk st) (B : mq_B xpr th) (h8 : n ≤ 8) (hl : mq_li li n) (ht : t < 4) (hs : s < 32)
    (hw : ∀ i, i < n → mq_hc cn (mq_l li i) (mp_sg (mq_ch ef) (mq_l li) s i) = true) (hsa : ∀ i, i ≤ n → sa i = nI (mp_sg (mq_ch ef) (mq_l li) s i))
    (K : ∀ pcs, mq_I (mq_E cn ef th tk dm st) (mq_l li) (mp_sg (mq_ch ef) (mq_l li) s) n t pcs (n + 1) 0 → post (xpr, nI n, xkn, xsw, xsl, xsc, cn, ef, tk, dm, (mq_fs st), (mq_ss st), li, wc, pl, pc, kw, sa, pcs)) :
    ∀ d i f pcs, i + d = n + 1 → d < f → mq_I (mq_E cn ef th tk dm st) (mq_l li) (mp_sg (mq_ch ef) (mq_l li) s) n t pcs i 0 → wX_coverPieces_2 post (nI t) xpr (nI n) xkn xsw xsl xsc f (nI i) cn ef tk dm (mq_fs st) (mq_ss st) li wc pl pc kw sa pcs := by
  intro d
  induction d with
  | zero =>
    intro i f pcs h1 h2 I
    obtain ⟨f, rfl⟩ : ∃ k', f = k' + 1 := ⟨f - 1, by omega⟩
    have : i = n + 1 := by omega
    subst this
    exact br_t (nI_lt (by omega) (by omega)) (K _ I)
  | succ d ih =>
    intro i f pcs h1 h2 I
    obtain ⟨f, rfl⟩ : ∃ k', f = k' + 1 := ⟨f - 1, by omega⟩
    exact br_f (nI_nlt (by omega) (by omega)) ⟨10, xk_cp1 w B h8 hl ht hs (show i ≤ n from by omega) hw hsa (fun pcs I' => ih (i + 1) f pcs (by omega) (by omega) I') (n + 1 - i) i 10 pcs (by omega) (by omega) (Nat.le_refl _) ⟨I.1, fun b c b1 b2 b3 => I.2 b c b1 b2 (by omega)⟩⟩
theorem xk_ac0 {post : Int32 → SX → Prop} {s n t : Nat} (w : mq_W th tk st) (B : mq_B xpr th) (h8 : n ≤ 8) (hl : mq_li li n) (ht : t < 4) (hs : s < 32)
    (hw : ∀ i, i < n → mq_hc cn (mq_l li i) (mp_sg (mq_ch ef) (mq_l li) s i) = true) (hsa : ∀ i, i ≤ n → sa i = nI (mp_sg (mq_ch ef) (mq_l li) s i))
    (K1 : mp_cv (mq_E cn ef th tk dm st) (mq_l li) (mp_sg (mq_ch ef) (mq_l li) s) (8 + t) 0 n → ∀ pcs, post 1 (xpr, nI n, xkn, xsw, xsl, xsc, cn, ef, tk, dm, (mq_fs st), (mq_ss st), li, wc, pl, pc, kw, sa, pcs))
    (K0 : ¬ mp_cv (mq_E cn ef th tk dm st) (mq_l li) (mp_sg (mq_ch ef) (mq_l li) s) (8 + t) 0 n → ∀ pcs, post 0 (xpr, nI n, xkn, xsw, xsl, xsc, cn, ef, tk, dm, (mq_fs st), (mq_ss st), li, wc, pl, pc, kw, sa, pcs)) :
    ∀ d r f pcs, t + d = r → d < f → r ≤ 4 → (∀ a b c, r ≤ a → a < 4 → b ≤ c → c ≤ n → mq_P (mq_E cn ef th tk dm st) (mq_l li) (mp_sg (mq_ch ef) (mq_l li) s) pcs a b c) → wX_accounts_26 post (nI t) f (nI r + (-1)) xpr (nI n) xkn xsw xsl xsc cn ef tk dm (mq_fs st) (mq_ss st) li wc pl pc kw sa pcs := by
  intro d
  induction d with
  | zero =>
    intro r f pcs h1 h2 h3 H
    obtain ⟨f, rfl⟩ : ∃ k', f = k' + 1 := ⟨f - 1, by omega⟩
    have e : t = r := h1
    subst e
    have ei : nI t * 81 + nI n = nI (mq_pi t 0 n) := by
      show nI t * nI 81 + nI n = _
      rw [pk_mul, nI_add]
      exact congrArg nI (by unfold mq_pi; omega)
    have lt : mq_pi t 0 n < 324 := by unfold mq_pi; omega
    refine br_t ?_ ?_
    · have : ∀ t, t < 4 → nI t + (-1) < nI t := by decide
      exact this t ht
    · rw [ei, nI_clamp (by omega)]
      rcases H t 0 n (Nat.le_refl _) ht (Nat.zero_le _) (Nat.le_refl _) with ⟨p1, p2⟩ | ⟨p1, p2⟩
      · rw [p1]
        exact And.intro (vp_in_nI lt (by decide)) (And.intro narrow_b1 (K1 p2 pcs))
      · rw [p1]
        exact And.intro (vp_in_nI lt (by decide)) (And.intro narrow_b0 (K0 p2 pcs))
  | succ d ih =>
    intro r f pcs h1 h2 h3 H
    obtain ⟨f, rfl⟩ : ∃ k', f = k' + 1 := ⟨f - 1, by omega⟩
    obtain ⟨r, rfl⟩ : ∃ k, r = k + 1 := ⟨r - 1, by omega⟩
    rw [pk_m1]
    refine br_f (nI_nlt (by omega) (by omega)) ⟨n + 2, xk_cp2 w B h8 hl (show r < 4 from by omega) hs hw hsa (fun pcs I => nm_r (e' := nI r + (-1)) rfl (ih r f pcs (by omega) (by omega) (by omega) (fun a b c a1 a2 a3 a4 => ?_))) (n + 1) 0 (n + 2) pcs (by omega) (by omega) ⟨fun a b c a1 a2 a3 a4 => H a b c (by omega) a2 a3 a4, fun b c b1 b2 b3 => by omega⟩⟩
    by_cases z : a = r
    · rw [z]
      exact I.2 b c a3 a4 (by omega)
    · exact I.1 a b c (by omega) a2 a3 a4
theorem xk_accounts {post : Int32 → SX → Prop} {s n t : Nat} (w : mq_W th tk st) (B : mq_B xpr th) (h8 : n ≤ 8) (hl : mq_li li n) (ht : t < 4) (hs : s < 32)
    (K1 : (∃ x, x ∈ (mq_E cn ef th tk dm st) (8 + t) s ∧ x.1 = mp_sl (mq_l li) 0 n) → ∀ sa pcs, post 1 (xpr, nI n, xkn, xsw, xsl, xsc, cn, ef, tk, dm, (mq_fs st), (mq_ss st), li, wc, pl, pc, kw, sa, pcs))
    (K0 : (¬ ∃ x, x ∈ (mq_E cn ef th tk dm st) (8 + t) s ∧ x.1 = mp_sl (mq_l li) 0 n) → ∀ sa pcs, post 0 (xpr, nI n, xkn, xsw, xsl, xsc, cn, ef, tk, dm, (mq_fs st), (mq_ss st), li, wc, pl, pc, kw, sa, pcs)) : wpX_accounts post (xpr, nI n, xkn, xsw, xsl, xsc, cn, ef, tk, dm, (mq_fs st), (mq_ss st), li, wc, pl, pc, kw, sa, pcs) (nI t) (nI s) := by
  unfold wpX_accounts
  refine xk_task1 ht (br_f (by decide) (xk_state1 hs (br_f (by decide) (xk_walk h8 hl hs (fun hw sa hsa => br_f (by decide) ⟨5, ?_⟩) (fun hf sa => br_t rfl (K0 ?_ _ _))))))
  · refine xk_ac0 w B h8 hl ht hs hw hsa (fun c pcs => K1 ?_ _ _) (fun c pcs => K0 ?_ _ _) (4 - t) 4 5 _ (by omega) (by omega) (Nat.le_refl _) (fun a b c a1 a2 a3 a4 => by omega)
    · obtain ⟨e, he⟩ := c
      exact ⟨_, he, rfl⟩
    · rintro ⟨x, hx, ex⟩
      refine c ⟨x.2, ?_⟩
      rw [Nat.sub_zero, ← ex]
      exact hx
  · rintro ⟨x, hx, ex⟩
    obtain ⟨i, hi, hf⟩ := hf
    have g := (mq_E_ok w (by omega) (by omega) hs x hx).2.2.2
    rw [ex] at g
    exact hf (mp_ex_all n 0 g i (Nat.zero_le _) (by omega))
theorem xk_after {post : Int32 → SX → Prop} {s n : Nat} (h8 : n ≤ 8) (hl : mq_li li n) (hs : s < 32)
    (K1 : ∀ e, mp_ex (mq_hc cn) (mq_ch ef) (mp_sl (mq_l li) 0 n) s = some e → ∀ sa, post (nI e) (xpr, nI n, xkn, xsw, xsl, xsc, cn, ef, tk, dm, (mq_fs st), (mq_ss st), li, wc, pl, pc, kw, sa, pcs))
    (K0 : mp_ex (mq_hc cn) (mq_ch ef) (mp_sl (mq_l li) 0 n) s = none → ∀ sa, post (-1) (xpr, nI n, xkn, xsw, xsl, xsc, cn, ef, tk, dm, (mq_fs st), (mq_ss st), li, wc, pl, pc, kw, sa, pcs)) : wpX_after post (xpr, nI n, xkn, xsw, xsl, xsc, cn, ef, tk, dm, (mq_fs st), (mq_ss st), li, wc, pl, pc, kw, sa, pcs) (nI s) := by
  unfold wpX_after
  refine xk_state1 hs (br_f (by decide) (xk_walk h8 hl hs (fun hw sa hsa => br_f (by decide) (And.intro (vp_in_nI (by omega) (by decide)) ?_)) (fun hf sa => br_t rfl (K0 ?_ _))))
  · rw [nI_clamp (by omega), hsa n (Nat.le_refl _)]
    have := mp_ex_sl (hc := mq_hc cn) (ch := mq_ch ef) (l := mq_l li) (s := s) n 0 (fun k hk => hw k (by omega))
    rw [Nat.zero_add] at this
    exact K1 _ this _
  · obtain ⟨i, hi, hf⟩ := hf
    cases q : mp_ex (mq_hc cn) (mq_ch ef) (mp_sl (mq_l li) 0 n) s with
    | none => rfl
    | some e => exact absurd (mp_ex_all (hc := mq_hc cn) (ch := mq_ch ef) (l := mq_l li) (s := s) n 0 q i (Nat.zero_le _) (by omega)) hf
def mq_ds (E : Nat → Nat → List (List Nat × Nat)) (s : Nat) : Nat → Int32
  | 0 => 0
  | t + 1 => if (E (8 + t) s).length = 0 then mq_ds E s t else mq_ds E s t ||| ((1 : Int32) <<< (nI t &&& 31))
theorem xk_do0 {post : Int32 → SX → Prop} {s : Nat} (w : mq_W th tk st) (B : mq_B xpr th) (hs : s < 32)
    (K : ∀ xkn xsw xsl xsc wc pl pc, (xkn = 0 ∨ mq_T wc pl pc (mq_F (mq_E cn ef th tk dm st) 0)) → post (mq_ds (mq_E cn ef th tk dm st) s 4) (xpr, xsz, xkn, xsw, xsl, xsc, cn, ef, tk, dm, (mq_fs st), (mq_ss st), li, wc, pl, pc, kw, sa, pcs)) :
    ∀ d t f xkn xsw xsl xsc wc pl pc, t + d = 4 → d < f → (xkn = 0 ∨ mq_T wc pl pc (mq_F (mq_E cn ef th tk dm st) 0)) → wX_doable_13 post (nI s) f (mq_ds (mq_E cn ef th tk dm st) s t) (nI t) xpr xsz xkn xsw xsl xsc cn ef tk dm (mq_fs st) (mq_ss st) li wc pl pc kw sa pcs := by
  intro d
  induction d with
  | zero =>
    intro t f xkn xsw xsl xsc wc pl pc h1 h2 hk
    obtain ⟨f, rfl⟩ : ∃ k', f = k' + 1 := ⟨f - 1, by omega⟩
    have : t = 4 := by omega
    subst this
    exact br_t (nI_le (a := 4) (b := 4) (by omega) (by omega)) (K _ _ _ _ _ _ _ hk)
  | succ d ih =>
    intro t f xkn xsw xsl xsc wc pl pc h1 h2 hk
    obtain ⟨f, rfl⟩ : ∃ k', f = k' + 1 := ⟨f - 1, by omega⟩
    have ht : t < 4 := by omega
    have l := mq_E_len (cn := cn) (ef := ef) (dm := dm) w ht s
    refine br_f (nI_ge (a := t) (b := 4) ht (by decide)) (xk_allWays w B hk ht hs (fun xkn xsw xsl xsc wc pl pc T => pk_le ((mq_E cn ef th tk dm st) (8 + t) s).length 0 (fun q => nm_r (e' := mq_ds (mq_E cn ef th tk dm st) s (t + 1)) ?_ (nm_r (nI_1 t) (ih (t + 1) f _ _ _ _ _ _ _ (by omega) (by omega) (Or.inr T)))) (fun q => nm_r (e' := mq_ds (mq_E cn ef th tk dm st) s (t + 1)) ?_ (nm_r (nI_1 t) (ih (t + 1) f _ _ _ _ _ _ _ (by omega) (by omega) (Or.inr T))))))
    · rw [mq_ds, if_pos (by omega), Int32.or_zero]
    · rw [mq_ds, if_neg (by omega)]
theorem xk_doable {post : Int32 → SX → Prop} {s : Nat} (w : mq_W th tk st) (B : mq_B xpr th) (hk : xkn = 0 ∨ mq_T wc pl pc (mq_F (mq_E cn ef th tk dm st) 0)) (hs : s < 32)
    (K : ∀ xkn xsw xsl xsc wc pl pc, (xkn = 0 ∨ mq_T wc pl pc (mq_F (mq_E cn ef th tk dm st) 0)) → post (mq_ds (mq_E cn ef th tk dm st) s 4) (xpr, xsz, xkn, xsw, xsl, xsc, cn, ef, tk, dm, (mq_fs st), (mq_ss st), li, wc, pl, pc, kw, sa, pcs)) : wpX_doable post (xpr, xsz, xkn, xsw, xsl, xsc, cn, ef, tk, dm, (mq_fs st), (mq_ss st), li, wc, pl, pc, kw, sa, pcs) (nI s) := by
  unfold wpX_doable
  exact xk_state1 hs (br_f (by decide) ⟨5, xk_do0 w B hs K 4 0 5 _ _ _ _ _ _ _ (by omega) (by omega) hk⟩)
end
end
section
/-! useless of both; the reference's accounts, after, doable, methods -/
section
variable {xpr xsz xkn xsw xsl : Int32} {xsc : Int64} {cn ef th tk dm st li wc pl kw sa pcs : Nat → Int32} {pc : Nat → Int64}
theorem xk_us68 {post : Int32 → SX → Prop} {m : Nat}
    (K1 : (∀ i, i < 4096 → kw i = wc i) → post 1 (xpr ||| ((1 : Int32) <<< (nI m &&& 31)), xsz, 0, xsw, xsl, xsc, cn, ef, tk, dm, (mq_fs st), (mq_ss st), li, wc, pl, pc, kw, sa, pcs))
    (K0 : (¬ ∀ i, i < 4096 → kw i = wc i) → post 0 (xpr ||| ((1 : Int32) <<< (nI m &&& 31)), xsz, 0, xsw, xsl, xsc, cn, ef, tk, dm, (mq_fs st), (mq_ss st), li, wc, pl, pc, kw, sa, pcs)) :
    ∀ d j f x2, j + d = 4096 → d < f → ((x2 = 1 ∧ ∀ i, i < j → kw i = wc i) ∨ (x2 = 0 ∧ ¬ ∀ i, i < j → kw i = wc i)) → wX_useless_68 post (nI m) xpr xsz xkn xsw xsl xsc cn ef tk dm (mq_fs st) (mq_ss st) li wc pl pc kw sa pcs f x2 (nI j) := by
  intro d
  induction d with
  | zero =>
    intro j f x2 h1 h2 H
    obtain ⟨f, rfl⟩ : ∃ k', f = k' + 1 := ⟨f - 1, by omega⟩
    have : j = 4096 := by omega
    subst this
    rcases H with ⟨rfl, H⟩ | ⟨rfl, H⟩
    · exact br_t (nI_le (a := 4096) (b := 4096) (by omega) (by omega)) (nm_r (e' := xpr ||| ((1 : Int32) <<< (nI m &&& 31))) rfl (And.intro narrow_b1 (K1 H)))
    · exact br_t (nI_le (a := 4096) (b := 4096) (by omega) (by omega)) (nm_r (e' := xpr ||| ((1 : Int32) <<< (nI m &&& 31))) rfl (And.intro narrow_b0 (K0 H)))
  | succ d ih =>
    intro j f x2 h1 h2 H
    obtain ⟨f, rfl⟩ : ∃ k', f = k' + 1 := ⟨f - 1, by omega⟩
    have iv : vp_in (nI j) 4096 := vp_in_nI (by omega) (by decide)
    have ej : (nI j).toNatClampNeg = j := nI_clamp (by omega)
    refine pk_le 4096 j (fun h => by omega) (fun _ => ?_)
    rcases H with ⟨rfl, H⟩ | ⟨rfl, H⟩
    · refine br_f (by decide) (And.intro iv (And.intro iv ?_))
      rw [ej]
      refine br_c (fun q => nm_r (nI_1 j) (ih (j + 1) f 1 (by omega) (by omega) (Or.inl ⟨rfl, fun i hi => ?_⟩))) (fun q => nm_r (nI_1 j) (ih (j + 1) f 0 (by omega) (by omega) (Or.inr ⟨rfl, fun z => q (z j (by omega))⟩)))
      by_cases z : i = j
      · rw [z]; exact q
      · exact H i (by omega)
    · exact br_t rfl (nm_r (nI_1 j) (ih (j + 1) f 0 (by omega) (by omega) (Or.inr ⟨rfl, fun z => H (fun i hi => z i (by omega))⟩)))
theorem xk_us16 {post : Int32 → SX → Prop} {m : Nat}
    (K : ∀ kw, (∀ i, i < 4096 → kw i = wc i) → wpX_learn (fun u => match u with | (f_present_45, f_size_46, f_known_47, f_stepWays_48, f_stepLength_49, f_stepCode_50, a_conditions_51, a_effects_52, a_taskOf_53, a_conditionOf_54, a_firstStep_55, a_secondStep_56, a_list_57, a_wayCount_58, a_planLength_59, a_planCode_60, a_keptWays_61, a_stateAt_62, a_pieces_63) => ∃ n68 : Nat, wX_useless_68 post (nI m) f_present_45 f_size_46 f_known_47 f_stepWays_48 f_stepLength_49 f_stepCode_50 a_conditions_51 a_effects_52 a_taskOf_53 a_conditionOf_54 a_firstStep_55 a_secondStep_56 a_list_57 a_wayCount_58 a_planLength_59 a_planCode_60 a_keptWays_61 a_stateAt_62 a_pieces_63 n68 1 0) (xpr &&& (((1 : Int32) <<< (nI m &&& 31)) ^^^ (-1)), xsz, 0, xsw, xsl, xsc, cn, ef, tk, dm, (mq_fs st), (mq_ss st), li, wc, pl, pc, kw, sa, pcs)) :
    ∀ d j f kw, j + d = 4096 → d < f → (∀ i, i < j → kw i = wc i) → wX_useless_16 post (nI m) xpr xsz xkn xsw xsl xsc f (nI j) cn ef tk dm (mq_fs st) (mq_ss st) li wc pl pc kw sa pcs := by
  intro d
  induction d with
  | zero =>
    intro j f kw h1 h2 H
    obtain ⟨f, rfl⟩ : ∃ k', f = k' + 1 := ⟨f - 1, by omega⟩
    have : j = 4096 := by omega
    subst this
    refine br_t (nI_le (a := 4096) (b := 4096) (by omega) (by omega)) ?_
    intro y ey
    subst ey
    exact K kw H
  | succ d ih =>
    intro j f kw h1 h2 H
    obtain ⟨f, rfl⟩ : ∃ k', f = k' + 1 := ⟨f - 1, by omega⟩
    have iv : vp_in (nI j) 4096 := vp_in_nI (by omega) (by decide)
    have ej : (nI j).toNatClampNeg = j := nI_clamp (by omega)
    refine pk_le 4096 j (fun h => by omega) (fun _ => And.intro iv (And.intro iv (nm_r (e' := upd kw j (wc j)) (by rw [ej]) (nm_r (nI_1 j) (ih (j + 1) f _ (by omega) (by omega) (fun i hi => ?_))))))
    by_cases z : i = j
    · rw [z, pk_us]
    · rw [pk_un z]; exact H i (by omega)
/-- method m changes nothing -/
def mq_U (cn ef th tk dm st : Nat → Int32) (m : Nat) : Prop := ∀ c, c < 128 → (mq_E cn ef (upd th m 0) tk dm st (8 + c / 32) (c % 32)).length = ((mq_E cn ef th tk dm st) (8 + c / 32) (c % 32)).length
theorem mq_sub {m : Nat} (v s : Nat) : List.Sublist (mq_E cn ef (upd th m 0) tk dm st v s) ((mq_E cn ef th tk dm st) v s) := by
  refine mp_sub (fun t k s o => ?_) 4 v s
  obtain ⟨a, b, c⟩ := mq_ok_iff.mp o
  by_cases z : k = m
  · rw [z, pk_us] at a
    exact absurd rfl a
  · rw [pk_un z] at a
    exact mq_ok_iff.mpr ⟨a, b, c⟩
theorem mq_U_iff (w : mq_W th tk st) {m : Nat} : mq_U cn ef th tk dm st m ↔ ∀ t s e, t < 4 → s < 32 → e < 32 → (mp_pe ((mq_E cn ef th tk dm st) (8 + t) s) e).length = (mp_pe (mq_E cn ef (upd th m 0) tk dm st (8 + t) s) e).length := by
  constructor
  · intro h t s e ht hs he
    have := h (t * 32 + s) (by omega)
    rw [show (t * 32 + s) / 32 = t from by omega, show (t * 32 + s) % 32 = s from by omega] at this
    rw [List.Sublist.eq_of_length (mq_sub _ _) this]
  · intro h c hc
    have w' := mq_W_clr w m
    rw [← mq_E_su w' (by omega) (by omega) (by omega), ← mq_E_su w (by omega) (by omega) (by omega)]
    exact mp_su_congr 32 (fun e he => (h (c / 32) (c % 32) e (by omega) (by omega) he).symm)
theorem xk_useless {post : Int32 → SX → Prop} {m : Nat} (w : mq_W th tk st) (B : mq_B xpr th) (hk : xkn = 0 ∨ mq_T wc pl pc (mq_F (mq_E cn ef th tk dm st) 0)) (hm : m < 8) (hth : ¬ th m = 0)
    (K1 : mq_U cn ef th tk dm st m → ∀ xsw xsl xsc wc pl pc kw, post 1 (xpr, xsz, 0, xsw, xsl, xsc, cn, ef, tk, dm, (mq_fs st), (mq_ss st), li, wc, pl, pc, kw, sa, pcs))
    (K0 : ¬ mq_U cn ef th tk dm st m → ∀ xsw xsl xsc wc pl pc kw, post 0 (xpr, xsz, 0, xsw, xsl, xsc, cn, ef, tk, dm, (mq_fs st), (mq_ss st), li, wc, pl, pc, kw, sa, pcs)) : wpX_useless post (xpr, xsz, xkn, xsw, xsl, xsc, cn, ef, tk, dm, (mq_fs st), (mq_ss st), li, wc, pl, pc, kw, sa, pcs) (nI m) := by
  unfold wpX_useless
  have w' := mq_W_clr w m
  have B' := mq_B_clr B hm
  refine xk_has B hm (fun _ => br_f (by decide) (xk_learn w B hk (fun xkn xsw xsl xsc wc pl pc T => ⟨4097, xk_us16 (fun kw H => ?_) 4096 0 4097 kw (by omega) (by omega) (fun i hi => absurd hi (Nat.not_lt_zero _))⟩))) (fun z => absurd z hth)
  refine xk_learn (th := upd th m 0) w' B' (Or.inl rfl) (fun xkn' xsw' xsl' xsc' wc' pl' pc' T' => ⟨4097, xk_us68 (fun G => ?_) (fun G => ?_) 4096 0 4097 1 (by omega) (by omega) (Or.inl ⟨rfl, fun i hi => absurd hi (Nat.not_lt_zero _)⟩)⟩)
  · rw [mq_B_back B hm hth]
    refine K1 ((mq_U_iff w).mpr (fun t s e ht hs he => ?_)) _ _ _ _ _ _ _
    have g := G (mq_cl t s e) (mq_cl_lt ht hs he)
    rw [H _ (mq_cl_lt ht hs he)] at g
    have a := (T t s e ht hs he).1.1.1
    have b := (T' t s e ht hs he).1.1.1
    rw [mq_F0] at a b
    rw [a, b] at g
    have la := mq_pe_len2 (cn := cn) (ef := ef) (dm := dm) w (show 8 + t < 12 from by omega) s e
    have lb := mq_pe_len2 (cn := cn) (ef := ef) (dm := dm) w' (show 8 + t < 12 from by omega) s e
    exact (nI_eq (by omega) (by omega)).mp g
  · rw [mq_B_back B hm hth]
    refine K0 (fun U => G (fun i hi => ?_)) _ _ _ _ _ _ _
    have u := (mq_U_iff w).mp U (i / 1024) (i / 32 % 32) (i % 32) (by omega) (by omega) (by omega)
    have e : mq_cl (i / 1024) (i / 32 % 32) (i % 32) = i := by unfold mq_cl; omega
    have a := (T (i / 1024) (i / 32 % 32) (i % 32) (by omega) (by omega) (by omega)).1.1.1
    have b := (T' (i / 1024) (i / 32 % 32) (i % 32) (by omega) (by omega) (by omega)).1.1.1
    rw [mq_F0, e] at a b
    rw [H i hi, a, b, u]
end
section
variable {ywr ykn ymd yop yst yps ybs : Int32} {cn ef th tk dm st li yc yag ypl ybe : Nat → Int32}
theorem yk_us0 {post : Int32 → SY → Prop} {m : Nat} (w : mq_W th tk st) (hm : m < 8) (h1 : th m = 1)
    (K1 : mq_U cn ef th tk dm st m → ∀ ykn ymd yop yst yps yc yag ypl, post 1 (ywr, ykn, ymd, yop, yst, yps, ybs, cn, ef, th, tk, dm, st, li, yc, yag, ypl, ybe))
    (K0 : ¬ mq_U cn ef th tk dm st m → ∀ ykn ymd yop yst yps yc yag ypl, post 0 (ywr, ykn, ymd, yop, yst, yps, ybs, cn, ef, th, tk, dm, st, li, yc, yag, ypl, ybe)) :
    ∀ d j f ykn ymd yop yst yps yc yag ypl, j + d = 128 → d + 1 < f → (∀ c, c < j → (mq_E cn ef (upd th m 0) tk dm st (8 + c / 32) (c % 32)).length = ((mq_E cn ef th tk dm st) (8 + c / 32) (c % 32)).length) → wY_useless_25 post (nI m) f 1 (nI j) ywr ykn ymd yop yst yps ybs cn ef th tk dm st li yc yag ypl ybe := by
  intro d
  induction d with
  | zero =>
    intro j f ykn ymd yop yst yps yc yag ypl hj hf H
    obtain ⟨f, rfl⟩ : ∃ k', f = k' + 1 := ⟨f - 1, by omega⟩
    have : j = 128 := by omega
    subst this
    exact br_t (nI_le (a := 128) (b := 128) (by omega) (by omega)) (And.intro narrow_b1 (K1 H _ _ _ _ _ _ _ _))
  | succ d ih =>
    intro j f ykn ymd yop yst yps yc yag ypl hj hf H
    obtain ⟨f, rfl⟩ : ∃ k', f = k' + 1 := ⟨f - 1, by omega⟩
    have iv : vp_in (nI m) 8 := vp_in_nI hm (by decide)
    have em : (nI m).toNatClampNeg = m := nI_clamp (by omega)
    have ea : nI j >>> ((5 : Int32) &&& 31) = nI (j / 32) := pk_shrN (by omega) _ 5 (by decide)
    have eb : nI j &&& 31 = nI (j % 32) := pk_andN (by omega) 5 (by decide)
    have w' := mq_W_clr w m
    have bk : upd (upd th m 0) m 1 = th := by
      funext k
      by_cases z : k = m
      · rw [z, pk_us, h1]
      · rw [pk_un z, pk_un z]
    have la := mq_E_len (cn := cn) (ef := ef) (dm := dm) w (show j / 32 < 4 from by omega) (j % 32)
    have lb := mq_E_len (cn := cn) (ef := ef) (dm := dm) w' (show j / 32 < 4 from by omega) (j % 32)
    refine pk_le 128 j (fun h => by omega) (fun _ => br_f (by decide) ?_)
    rw [ea, eb]
    refine yk_countA w (by omega) (by omega) (fun ykn ymd yop yst yps yc yag ypl => And.intro iv (nm_r (e' := upd th m 0) (by rw [em, mq_nz0]) (yk_countA w' (by omega) (by omega) (fun ykn ymd yop yst yps yc yag ypl => ?_))))
    refine pk_eq (mq_E cn ef (upd th m 0) tk dm st (8 + j / 32) (j % 32)).length ((mq_E cn ef th tk dm st) (8 + j / 32) (j % 32)).length (fun q => And.intro iv (nm_r (e' := th) (by rw [em, mq_nz1, bk]) (nm_r (nI_1 j) (ih (j + 1) f _ _ _ _ _ _ _ _ (by omega) (by omega) (fun c hc => ?_))))) (fun q => And.intro iv (nm_r (e' := th) (by rw [em, mq_nz1, bk]) (nm_r (nI_1 j) ?_)))
    · by_cases z : c = j
      · rw [z]; exact q
      · exact H c (by omega)
    · have N : ¬ mq_U cn ef th tk dm st m := fun U => q (U j (by omega))
      obtain ⟨f, rfl⟩ : ∃ k', f = k' + 1 := ⟨f - 1, by omega⟩
      exact br_c (fun _ => And.intro narrow_b0 (K0 N _ _ _ _ _ _ _ _)) (fun _ => br_t rfl (And.intro narrow_b0 (K0 N _ _ _ _ _ _ _ _)))
theorem yk_useless {post : Int32 → SY → Prop} {m : Nat} (w : mq_W th tk st) (hm : m < 8) (h1 : th m = 1)
    (K1 : mq_U cn ef th tk dm st m → ∀ ykn ymd yop yst yps yc yag ypl, post 1 (ywr, ykn, ymd, yop, yst, yps, ybs, cn, ef, th, tk, dm, st, li, yc, yag, ypl, ybe))
    (K0 : ¬ mq_U cn ef th tk dm st m → ∀ ykn ymd yop yst yps yc yag ypl, post 0 (ywr, ykn, ymd, yop, yst, yps, ybs, cn, ef, th, tk, dm, st, li, yc, yag, ypl, ybe)) : wpY_useless post (ywr, ykn, ymd, yop, yst, yps, ybs, cn, ef, th, tk, dm, st, li, yc, yag, ypl, ybe) (nI m) := by
  have iv : vp_in (nI m) 8 := vp_in_nI hm (by decide)
  have em : (nI m).toNatClampNeg = m := nI_clamp (by omega)
  refine br_f (nI_pos (by omega)) (br_f (nI_nlt (a := 7) (b := m) (by omega) (by decide)) (And.intro iv (br_f ?_ ⟨130, yk_us0 w hm h1 K1 K0 128 0 130 _ _ _ _ _ _ _ _ (by omega) (by omega) (fun c hc => absurd hc (Nat.not_lt_zero _))⟩)))
  rw [em, h1]
  decide
theorem mq_la_sl {n : Nat} (hl : mq_li li n) : ∀ d i, i + d ≤ n → mp_la li i (mp_sl (mq_l li) i d) := by
  intro d
  induction d with
  | zero => intro i _; exact True.intro
  | succ d ih => intro i h; exact ⟨(mq_li_e hl (by omega)).1, ih (i + 1) (by omega)⟩
theorem yk_ac57z {post : Int32 → SY → Prop} {J : Int32 → Int32 → Int32 → Int32 → Int32 → Int32 → Int32 → Int32 → (Nat → Int32) → (Nat → Int32) → (Nat → Int32) → (Nat → Int32) → (Nat → Int32) → (Nat → Int32) → (Nat → Int32) → (Nat → Int32) → (Nat → Int32) → (Nat → Int32) → (Nat → Int32) → Prop} {x1 x2 x5 : Int32} {f : Nat} (K : J 0 ywr ykn ymd yop yst yps ybs cn ef th tk dm st li yc yag ypl ybe) : wY_accounts_57 post J x1 x2 ywr ykn ymd yop yst yps ybs cn ef th tk dm st li yc yag ypl ybe (f + 1) 0 x5 := br_c (fun _ => K) (fun _ => br_t rfl K)
theorem yk_ac57 {post : Int32 → SY → Prop} {J : Int32 → Int32 → Int32 → Int32 → Int32 → Int32 → Int32 → Int32 → (Nat → Int32) → (Nat → Int32) → (Nat → Int32) → (Nat → Int32) → (Nat → Int32) → (Nat → Int32) → (Nat → Int32) → (Nat → Int32) → (Nat → Int32) → (Nat → Int32) → (Nat → Int32) → Prop} {x1 x2 : Int32} :
    ∀ p l i f, p.length = l.length → (∀ d, d ∈ p → d < 6) → (∀ d, d ∈ l → d < 6) → i + l.length ≤ 8 → l.length < f → mp_la ypl i p → mp_la li i l → (p = l → J 1 (nI (i + l.length)) ykn ymd yop yst yps ybs cn ef th tk dm st li yc yag ypl ybe) → (p ≠ l → J 0 (nI (i + l.length)) ykn ymd yop yst yps ybs cn ef th tk dm st li yc yag ypl ybe) →
      wY_accounts_57 post J x1 x2 (nI (i + l.length)) ykn ymd yop yst yps ybs cn ef th tk dm st li yc yag ypl ybe f 1 (nI i) := by
  intro p
  induction p with
  | nil =>
    intro l i f hl hp hq h8 hf gp gl K1 K0
    obtain ⟨f, rfl⟩ : ∃ k', f = k' + 1 := ⟨f - 1, by omega⟩
    have : l = [] := List.length_eq_zero_iff.mp hl.symm
    subst this
    have h8' : i + 0 ≤ 8 := h8
    exact br_t (nI_le (Nat.le_refl _) (by omega)) (K1 rfl)
  | cons a p ih =>
    intro l i f hl hp hq h8 hf gp gl K1 K0
    obtain ⟨f, rfl⟩ : ∃ k', f = k' + 1 := ⟨f - 1, by omega⟩
    cases l with
    | nil => exact nomatch hl
    | cons b l =>
      have hl' : p.length = l.length := Nat.succ.inj hl
      have h8' : i + (l.length + 1) ≤ 8 := h8
      have hf' : l.length + 1 < f + 1 := hf
      have ha := hp a List.mem_cons_self
      have hb := hq b List.mem_cons_self
      have ei : (nI i).toNatClampNeg = i := nI_clamp (by omega)
      refine br_f (nI_ge (a := i) (b := i + (l.length + 1)) (by omega) (by omega)) (br_f (by decide) (And.intro (vp_in_nI (by omega) (by decide)) (And.intro (vp_in_nI (by omega) (by decide)) ?_)))
      rw [ei, gp.1, gl.1]
      have e1 : i + 1 + l.length = i + (b :: l).length := by show i + 1 + l.length = i + (l.length + 1); omega
      refine pk_eq a b (fun e => nm_r (nI_1 i) ?_) (fun e => nm_r (nI_1 i) ?_)
      · have := ih l (i + 1) f hl' (fun d hd => hp d (List.mem_cons_of_mem _ hd)) (fun d hd => hq d (List.mem_cons_of_mem _ hd)) (by omega) (by omega) gp.2 gl.2 (fun z => by rw [e1]; exact K1 (by rw [e, z])) (fun z => by rw [e1]; exact K0 (fun y => z (List.cons.inj y).2))
        rw [e1] at this
        exact this
      · obtain ⟨f, rfl⟩ : ∃ k', f = k' + 1 := ⟨f - 1, by omega⟩
        exact yk_ac57z (K0 (fun y => e (List.cons.inj y).1))
theorem yk_ac7 {post : Int32 → SY → Prop} {t s n : Nat} (w : mq_W th tk st) (ht : t < 4) (hs : s < 32) (h8 : n ≤ 8) (hl : mq_li li n) : ∀ ws f ykn ymd yop yst yps yc yag ypl, ws.length + 1 < f → (∀ x, x ∈ ws → x ∈ (mq_E cn ef th tk dm st) (8 + t) s) → mq_R cn ef th tk dm st t s ykn yc ws →
    ((∃ x, x ∈ ws ∧ x.1 = mp_sl (mq_l li) 0 n) → ∀ ykn ymd yop yst yps yc yag ypl, post 1 (nI n, ykn, ymd, yop, yst, yps, ybs, cn, ef, th, tk, dm, st, li, yc, yag, ypl, ybe)) →
    ((¬ ∃ x, x ∈ ws ∧ x.1 = mp_sl (mq_l li) 0 n) → ∀ ykn ymd yop yst yps yc yag ypl, post 0 (nI n, ykn, ymd, yop, yst, yps, ybs, cn, ef, th, tk, dm, st, li, yc, yag, ypl, ybe)) →
    wY_accounts_7 post (nI t) (nI s) f 0 (nI n) ykn ymd yop yst yps ybs cn ef th tk dm st li yc yag ypl ybe := by
  intro ws
  induction ws with
  | nil =>
    intro f ykn ymd yop yst yps yc yag ypl hf hw R K1 K0
    obtain ⟨f, rfl⟩ : ∃ k', f = k' + 1 := ⟨f - 1, by omega⟩
    unfold wY_accounts_7
    refine yk_task1 ht (br_f (by decide) (yk_state1 hs (br_f (by decide) (br_t rfl (yk_next w ht hs R (fun _ _ _ _ _ _ _ _ _ => br_t rfl (And.intro narrow_b0 (K0 ?_ _ _ _ _ _ _ _ _))) (fun x xs e => nomatch e))))))
    rintro ⟨x, hx, _⟩
    exact nomatch hx
  | cons x ws ih =>
    intro f ykn ymd yop yst yps yc yag ypl hf hw R K1 K0
    obtain ⟨f, rfl⟩ : ∃ k', f = k' + 1 := ⟨f - 1, by omega⟩
    have hf' : ws.length + 1 + 1 < f + 1 := hf
    have gx := mq_E_ok w (by omega) (by omega) hs x (hw x List.mem_cons_self)
    have l16 : x.1.length ≤ 16 := Nat.le_trans gx.2.1 (mp_pc1 (8 + t) (by omega)).2.1
    have hw' : ∀ y, y ∈ ws → y ∈ (mq_E cn ef th tk dm st) (8 + t) s := fun y hy => hw y (List.mem_cons_of_mem _ hy)
    unfold wY_accounts_7
    refine yk_task1 ht (br_f (by decide) (yk_state1 hs (br_f (by decide) (br_t rfl (yk_next w ht hs R (fun e => nomatch e) (fun y ys q ykn ymd yop yst yps yc yag ypl R' e1 e2 e3 => br_f (by decide) ?_))))))
    cases q
    subst e1 e2
    have no : x.1 ≠ mp_sl (mq_l li) 0 n → wY_accounts_7 post (nI t) (nI s) f 0 (nI n) ykn ymd yop (nI x.2) (nI x.1.length) ybs cn ef th tk dm st li yc yag ypl ybe := by
      intro z
      refine ih f _ _ _ _ _ _ _ _ (by omega) hw' R' (fun h => K1 ?_) (fun h => K0 ?_)
      · obtain ⟨y, hy, ey⟩ := h
        exact ⟨y, List.mem_cons_of_mem _ hy, ey⟩
      · rintro ⟨y, hy, ey⟩
        rcases List.mem_cons.mp hy with q | q
        · rw [q] at ey; exact z ey
        · exact h ⟨y, q, ey⟩
    have yes : x.1 = mp_sl (mq_l li) 0 n → wY_accounts_7 post (nI t) (nI s) f 1 (nI n) ykn ymd yop (nI x.2) (nI x.1.length) ybs cn ef th tk dm st li yc yag ypl ybe := by
      intro z
      obtain ⟨f, rfl⟩ : ∃ k', f = k' + 1 := ⟨f - 1, by omega⟩
      unfold wY_accounts_7
      exact yk_task1 ht (br_f (by decide) (yk_state1 hs (br_f (by decide) (br_f (by decide) (And.intro narrow_b1 (K1 ⟨x, List.mem_cons_self, z⟩ _ _ _ _ _ _ _ _))))))
    refine pk_eq x.1.length n (fun q => ⟨9, ?_⟩) (fun q => ⟨1, yk_ac57z (no (fun z => ?_))⟩)
    · have d6 : ∀ m i, i + m ≤ n → ∀ d, d ∈ mp_sl (mq_l li) i m → d < 6 := by
        intro m
        induction m with
        | zero => intro i _ d hd; exact nomatch hd
        | succ m ihm =>
          intro i hi d hd
          rcases List.mem_cons.mp hd with z | z
          · rw [z]; exact (mq_li_e hl (by omega)).2
          · exact ihm (i + 1) (by omega) d z
      have := yk_ac57 (post := post) (J := wY_accounts_7 post (nI t) (nI s) f) (x1 := nI t) (x2 := nI s) (ykn := ykn) (ymd := ymd) (yop := yop) (yst := nI x.2) (yps := nI x.1.length) (ybs := ybs) (cn := cn) (ef := ef) (th := th) (tk := tk) (dm := dm) (st := st) (li := li) (yc := yc) (yag := yag) (ypl := ypl) (ybe := ybe) x.1 (mp_sl (mq_l li) 0 n) 0 9 (by rw [mp_sl_len]; exact q) gx.2.2.1 (d6 n 0 (by omega)) (by rw [mp_sl_len]; omega) (by rw [mp_sl_len]; omega) e3 (mq_la_sl hl n 0 (by omega))
      rw [mp_sl_len, Nat.zero_add] at this
      exact this yes no
    · have := congrArg List.length z
      rw [mp_sl_len] at this
      exact q this
theorem yk_accounts {post : Int32 → SY → Prop} {t s n : Nat} (w : mq_W th tk st) (ht : t < 4) (hs : s < 32) (h8 : n ≤ 8) (hl : mq_li li n)
    (K1 : (∃ x, x ∈ (mq_E cn ef th tk dm st) (8 + t) s ∧ x.1 = mp_sl (mq_l li) 0 n) → ∀ ykn ymd yop yst yps yc yag ypl, post 1 (nI n, ykn, ymd, yop, yst, yps, ybs, cn, ef, th, tk, dm, st, li, yc, yag, ypl, ybe))
    (K0 : (¬ ∃ x, x ∈ (mq_E cn ef th tk dm st) (8 + t) s ∧ x.1 = mp_sl (mq_l li) 0 n) → ∀ ykn ymd yop yst yps yc yag ypl, post 0 (nI n, ykn, ymd, yop, yst, yps, ybs, cn, ef, th, tk, dm, st, li, yc, yag, ypl, ybe)) : wpY_accounts post (nI n, ykn, ymd, yop, yst, yps, ybs, cn, ef, th, tk, dm, st, li, yc, yag, ypl, ybe) (nI t) (nI s) :=
  ⟨((mq_E cn ef th tk dm st) (8 + t) s).length + 2, yk_ac7 w ht hs h8 hl ((mq_E cn ef th tk dm st) (8 + t) s) _ _ _ _ _ _ _ _ _ (Nat.lt_succ_self _) (fun _ h => h) (mq_R_0 w ht) K1 K0⟩
theorem yk_aft0 {post : Int32 → Prop} {n : Nat} (h8 : n ≤ 8) (hl : mq_li li n) : ∀ d i f s, i + d = n → d < f → s < 32 →
    (∀ e, mp_ex (mq_hc cn) (mq_ch ef) (mp_sl (mq_l li) i d) s = some e → post (nI e)) → (mp_ex (mq_hc cn) (mq_ch ef) (mp_sl (mq_l li) i d) s = none → post (-1)) →
    wY_after_16 post (nI n) ykn ymd yop yst yps ybs cn ef th tk dm st li yc yag ypl ybe f (nI s) (nI i) := by
  intro d
  induction d with
  | zero =>
    intro i f s h1 h2 hs K1 K0
    obtain ⟨f, rfl⟩ : ∃ k', f = k' + 1 := ⟨f - 1, by omega⟩
    have : i = n := by omega
    subst this
    exact br_t (nI_le (Nat.le_refl _) (by omega)) (K1 s rfl)
  | succ d ih =>
    intro i f s h1 h2 hs K1 K0
    obtain ⟨f, rfl⟩ : ∃ k', f = k' + 1 := ⟨f - 1, by omega⟩
    obtain ⟨e, l6⟩ := mq_li_e hl (show i < n from by omega)
    have iv8 : vp_in (nI i) 8 := vp_in_nI (by omega) (by decide)
    have ei : (nI i).toNatClampNeg = i := nI_clamp (by omega)
    have el : (nI (mq_l li i)).toNatClampNeg = mq_l li i := nI_clamp (by omega)
    have ex : mp_ex (mq_hc cn) (mq_ch ef) (mp_sl (mq_l li) i (d + 1)) s = if mq_hc cn (mq_l li i) s = true then mp_ex (mq_hc cn) (mq_ch ef) (mp_sl (mq_l li) (i + 1) d) (mq_ch ef (mq_l li i) s) else none := rfl
    rw [ex] at K1 K0
    refine br_f (nI_ge (a := i) (b := n) (by omega) (by omega)) (br_f (nI_pos (by omega)) (And.intro iv8 ?_))
    rw [ei, e, el]
    refine And.intro (vp_in_nI l6 (by decide)) (yk_holds (fun o => br_f (by decide) (And.intro iv8 (yk_changed l6 hs (nm_r (nI_1 i) ?_)))) (fun o => br_t rfl (nm_r (nI_1 i) ?_)))
    · rw [if_pos (show mq_hc cn (mq_l li i) s = true from o)] at K1 K0
      exact ih (i + 1) f _ (by omega) (by omega) (mq_ch_lt _ _ hs) K1 K0
    · rw [if_neg (show ¬ mq_hc cn (mq_l li i) s = true from by rw [show mq_hc cn (mq_l li i) s = false from o]; decide)] at K0
      obtain ⟨f, rfl⟩ : ∃ k', f = k' + 1 := ⟨f - 1, by omega⟩
      exact br_c (fun _ => K0 rfl) (fun _ => br_t (by decide) (K0 rfl))
theorem yk_do0 {post : Int32 → SY → Prop} {s : Nat} (w : mq_W th tk st) (hs : s < 32)
    (K : ∀ ykn ymd yop yst yps yc yag ypl, post (mq_ds (mq_E cn ef th tk dm st) s 4) (ywr, ykn, ymd, yop, yst, yps, ybs, cn, ef, th, tk, dm, st, li, yc, yag, ypl, ybe)) :
    ∀ d t f ykn ymd yop yst yps yc yag ypl, t + d = 4 → d < f → wY_doable_4 post (nI s) f (mq_ds (mq_E cn ef th tk dm st) s t) (nI t) ywr ykn ymd yop yst yps ybs cn ef th tk dm st li yc yag ypl ybe := by
  intro d
  induction d with
  | zero =>
    intro t f ykn ymd yop yst yps yc yag ypl h1 h2
    obtain ⟨f, rfl⟩ : ∃ k', f = k' + 1 := ⟨f - 1, by omega⟩
    have : t = 4 := by omega
    subst this
    refine br_t (nI_le (a := 4) (b := 4) (by omega) (by omega)) ?_
    unfold wY_doable_47
    exact yk_state1 hs (br_f (by decide) (K _ _ _ _ _ _ _ _))
  | succ d ih =>
    intro t f ykn ymd yop yst yps yc yag ypl h1 h2
    obtain ⟨f, rfl⟩ : ∃ k', f = k' + 1 := ⟨f - 1, by omega⟩
    have ht : t < 4 := by omega
    refine br_f (nI_ge (a := t) (b := 4) ht (by decide)) (yk_state1 hs (br_f (by decide) (yk_next w ht hs (mq_R_0 w ht) (fun z _ _ _ _ _ _ _ _ => br_t rfl (nm_r (nI_1 t) ?_)) (fun x xs z _ _ _ _ _ _ _ _ _ _ _ _ => br_f (by decide) (nm_r (e' := mq_ds (mq_E cn ef th tk dm st) s (t + 1)) ?_ (nm_r (nI_1 t) (ih (t + 1) f _ _ _ _ _ _ _ _ (by omega) (by omega))))))))
    · have e : mq_ds (mq_E cn ef th tk dm st) s (t + 1) = mq_ds (mq_E cn ef th tk dm st) s t := by rw [mq_ds, z]; rfl
      rw [← e]
      exact ih (t + 1) f _ _ _ _ _ _ _ _ (by omega) (by omega)
    · rw [mq_ds, z]
      rfl
theorem yk_me0 {post : Int32 → Prop} {P : Nat} (hP : P < 256) (hth : ∀ m, m < 8 → th m = if P.testBit m = true then 1 else 0) (K : post (nI P)) :
    ∀ d m f, m + d = 8 → d < f → wY_methods_4 post ywr ykn ymd yop yst yps ybs cn ef th tk dm st li yc yag ypl ybe f (nI (P % 2 ^ m)) (nI m) := by
  intro d
  induction d with
  | zero =>
    intro m f h1 h2
    obtain ⟨f, rfl⟩ : ∃ k', f = k' + 1 := ⟨f - 1, by omega⟩
    have : m = 8 := by omega
    subst this
    rw [show P % 2 ^ 8 = P from Nat.mod_eq_of_lt hP]
    exact br_t (nI_le (a := 8) (b := 8) (by omega) (by omega)) K
  | succ d ih =>
    intro m f h1 h2
    obtain ⟨f, rfl⟩ : ∃ k', f = k' + 1 := ⟨f - 1, by omega⟩
    have acc := mq_acc P hP m (by omega)
    have e := hth m (by omega)
    refine pk_le 8 m (fun h => by omega) (fun _ => And.intro (vp_in_nI (by omega) (by decide)) ?_)
    rw [nI_clamp (by omega), e]
    by_cases q : P.testBit m = true
    · rw [if_pos q]
      exact br_f (by decide) (nm_r (acc.1 q) (nm_r (nI_1 m) (ih (m + 1) f (by omega) (by omega))))
    · rw [if_neg q, acc.2 (by revert q; cases P.testBit m <;> decide)]
      exact br_t rfl (nm_r (nI_1 m) (ih (m + 1) f (by omega) (by omega)))
end
end
section
/-! the relation, its elimination, guards that fail -/
section
def mq_K (xpr xkn : Int32) (n : Nat) (cn ef th tk dm st li wc pl : Nat → Int32) (pc : Nat → Int64) : Prop := mq_W th tk st ∧ mq_B xpr th ∧ (xkn = 0 ∨ mq_T wc pl pc (mq_F (mq_E cn ef th tk dm st) 0)) ∧ n ≤ 8 ∧ mq_li li n
/-- shared arrays are the same functions; the table, where known, holds all ways -/
def i_Rel (k : Nat) (u : SX) (v : SY) : Prop := match u with
  | (xpr, xsz, xkn, _, _, _, cn, ef, tk, dm, xfs, xss, li, wc, pl, pc, _, _, _) => match v with
    | (ywr, _, _, _, _, _, _, cn', ef', th, tk', dm', st, li', _, _, _, _) => cn' = cn ∧ ef' = ef ∧ tk' = tk ∧ dm' = dm ∧ xfs = mq_fs st ∧ xss = mq_ss st ∧ li' = li ∧ ∃ n, xsz = nI n ∧ ywr = nI n ∧ mq_K xpr xkn n cn ef th tk dm st li wc pl pc
theorem i_up {k : Nat} {u : SX} {v : SY} (h : i_Rel k u v) : i_Rel (k + 4) u v := h
theorem mq_mk {k n : Nat} {xpr xkn xsw xsl : Int32} {xsc : Int64} {cn ef th tk dm st li wc pl kw sa pcs : Nat → Int32} {pc : Nat → Int64} {ykn ymd yop yst yps ybs : Int32} {yc yag ypl ybe : Nat → Int32} (h : mq_K xpr xkn n cn ef th tk dm st li wc pl pc) : i_Rel k (xpr, nI n, xkn, xsw, xsl, xsc, cn, ef, tk, dm, (mq_fs st), (mq_ss st), li, wc, pl, pc, kw, sa, pcs) (nI n, ykn, ymd, yop, yst, yps, ybs, cn, ef, th, tk, dm, st, li, yc, yag, ypl, ybe) := ⟨rfl, rfl, rfl, rfl, rfl, rfl, rfl, n, rfl, rfl, h⟩
theorem mq_el {k : Nat} {u : SX} {v : SY} {P : SX → SY → Prop} (h : ∀ (xpr xkn xsw xsl : Int32) (xsc : Int64) (n : Nat) (cn ef th tk dm st li wc pl kw sa pcs : Nat → Int32) (pc : Nat → Int64) (ykn ymd yop yst yps ybs : Int32) (yc yag ypl ybe : Nat → Int32), mq_W th tk st → mq_B xpr th → (xkn = 0 ∨ mq_T wc pl pc (mq_F (mq_E cn ef th tk dm st) 0)) → n ≤ 8 → mq_li li n → P (xpr, nI n, xkn, xsw, xsl, xsc, cn, ef, tk, dm, (mq_fs st), (mq_ss st), li, wc, pl, pc, kw, sa, pcs) (nI n, ykn, ymd, yop, yst, yps, ybs, cn, ef, th, tk, dm, st, li, yc, yag, ypl, ybe)) (I : i_Rel k u v) : P u v := by
  obtain ⟨xpr, xsz, xkn, xsw, xsl, xsc, cn, ef, tk, dm, xfs, xss, li, wc, pl, pc, kw, sa, pcs⟩ := u
  obtain ⟨ywr, ykn, ymd, yop, yst, yps, ybs, cn', ef', th, tk', dm', st, li', yc, yag, ypl, ybe⟩ := v
  obtain ⟨e1, e2, e3, e4, e5, e6, e7, n, e8, e9, h1, h2, h3, h4, h5⟩ := I
  subst e1 e2 e3 e4 e5 e6 e7 e8 e9
  exact h _ _ _ _ _ _ _ _ _ _ _ _ _ _ _ _ _ _ _ _ _ _ _ _ _ _ _ _ _ h1 h2 h3 h4 h5
theorem mq_ix (x : Int32) {n : Nat} (hn : n < 2 ^ 31) : (x < 0 ∨ nI n ≤ x) ∨ ∃ j : Nat, j < n ∧ x = nI j := by
  rcases pk_ix x hn with h | h | h
  · exact Or.inl (Or.inl h)
  · exact Or.inl (Or.inr h)
  · exact Or.inr h
end
section
variable {post : Int32 → Prop} {x : Int32} {ywr ykn ymd yop yst yps ybs : Int32} {cn ef th tk dm st li yc yag ypl ybe : Nat → Int32}
theorem xk_taskB (h1 : ¬ (x < 0 ∨ nI 4 ≤ x) → post 1) (h0 : post 0) : wpX_isTask post x := br_c (fun _ => h0) (fun a => br_c (fun _ => h0) (fun b => h1 (fun z => z.elim a b)))
theorem xk_stateB (h1 : ¬ (x < 0 ∨ nI 32 ≤ x) → post 1) (h0 : post 0) : wpX_isState post x := br_c (fun _ => h0) (fun a => br_c (fun _ => h0) (fun b => h1 (fun z => z.elim a b)))
theorem yk_taskB (h1 : ¬ (x < 0 ∨ nI 4 ≤ x) → post 1) (h0 : post 0) : wpY_task post (ywr, ykn, ymd, yop, yst, yps, ybs, cn, ef, th, tk, dm, st, li, yc, yag, ypl, ybe) x := br_c (fun _ => h0) (fun a => br_c (fun _ => h0) (fun b => h1 (fun z => z.elim a (fun q => b (mq_lt_of_le 3 (by decide) q)))))
theorem yk_stateB (h1 : ¬ (x < 0 ∨ nI 32 ≤ x) → post 1) (h0 : post 0) : wpY_isState post (ywr, ykn, ymd, yop, yst, yps, ybs, cn, ef, th, tk, dm, st, li, yc, yag, ypl, ybe) x := br_c (fun _ => h0) (fun a => br_c (fun _ => h0) (fun b => h1 (fun z => z.elim a (fun q => b (mq_lt_of_le 31 (by decide) q)))))
end
section
variable {post : Int32 → SX → Prop} {v1 v2 v3 : Int32} {xpr xsz xkn xsw xsl : Int32} {xsc : Int64} {cn ef th tk dm st li wc pl kw sa pcs : Nat → Int32} {pc : Nat → Int64}
theorem xk_ways_b (h : (v1 < 0 ∨ nI 4 ≤ v1) ∨ (v2 < 0 ∨ nI 32 ≤ v2) ∨ (v3 < 0 ∨ nI 32 ≤ v3)) (K : post (-1) (xpr, xsz, xkn, xsw, xsl, xsc, cn, ef, tk, dm, (mq_fs st), (mq_ss st), li, wc, pl, pc, kw, sa, pcs)) : wpX_ways post (xpr, xsz, xkn, xsw, xsl, xsc, cn, ef, tk, dm, (mq_fs st), (mq_ss st), li, wc, pl, pc, kw, sa, pcs) v1 v2 v3 := by
  unfold wpX_ways
  exact xk_taskB (fun a => br_f (by decide) (xk_stateB (fun b => br_f (by decide) (xk_stateB (fun c => absurd h (fun z => z.elim a (fun z => z.elim b c))) (br_t rfl K))) (br_t rfl K))) (br_t rfl K)
theorem xk_nextEnd_b (h : (v1 < 0 ∨ nI 4 ≤ v1) ∨ (v2 < 0 ∨ nI 32 ≤ v2) ∨ (v3 < 0 ∨ nI 32 ≤ v3)) (K : post (-1) (xpr, xsz, xkn, xsw, xsl, xsc, cn, ef, tk, dm, (mq_fs st), (mq_ss st), li, wc, pl, pc, kw, sa, pcs)) : wpX_nextEnd post (xpr, xsz, xkn, xsw, xsl, xsc, cn, ef, tk, dm, (mq_fs st), (mq_ss st), li, wc, pl, pc, kw, sa, pcs) v1 v2 v3 := by
  unfold wpX_nextEnd
  exact xk_taskB (fun a => br_f (by decide) (xk_stateB (fun b => br_f (by decide) (xk_stateB (fun c => absurd h (fun z => z.elim a (fun z => z.elim b c))) (br_t rfl K))) (br_t rfl K))) (br_t rfl K)
theorem xk_shortest_b (h : (v1 < 0 ∨ nI 4 ≤ v1) ∨ (v2 < 0 ∨ nI 32 ≤ v2) ∨ (v3 < 0 ∨ nI 32 ≤ v3)) (K : post (-1) (xpr, xsz, xkn, xsw, xsl, xsc, cn, ef, tk, dm, (mq_fs st), (mq_ss st), li, wc, pl, pc, kw, sa, pcs)) : wpX_shortest post (xpr, xsz, xkn, xsw, xsl, xsc, cn, ef, tk, dm, (mq_fs st), (mq_ss st), li, wc, pl, pc, kw, sa, pcs) v1 v2 v3 := by
  unfold wpX_shortest
  exact xk_taskB (fun a => br_f (by decide) (xk_stateB (fun b => br_f (by decide) (xk_stateB (fun c => absurd h (fun z => z.elim a (fun z => z.elim b c))) (br_t rfl K))) (br_t rfl K))) (br_t rfl K)
theorem xk_allWays_b (h : (v1 < 0 ∨ nI 4 ≤ v1) ∨ (v2 < 0 ∨ nI 32 ≤ v2)) (K : post (-1) (xpr, xsz, xkn, xsw, xsl, xsc, cn, ef, tk, dm, (mq_fs st), (mq_ss st), li, wc, pl, pc, kw, sa, pcs)) : wpX_allWays post (xpr, xsz, xkn, xsw, xsl, xsc, cn, ef, tk, dm, (mq_fs st), (mq_ss st), li, wc, pl, pc, kw, sa, pcs) v1 v2 := by
  unfold wpX_allWays
  exact xk_taskB (fun a => br_f (by decide) (xk_stateB (fun b => absurd h (fun z => z.elim a b)) (br_t rfl K))) (br_t rfl K)
theorem xk_accounts_b (h : (v1 < 0 ∨ nI 4 ≤ v1) ∨ (v2 < 0 ∨ nI 32 ≤ v2)) (K : post 0 (xpr, xsz, xkn, xsw, xsl, xsc, cn, ef, tk, dm, (mq_fs st), (mq_ss st), li, wc, pl, pc, kw, sa, pcs)) : wpX_accounts post (xpr, xsz, xkn, xsw, xsl, xsc, cn, ef, tk, dm, (mq_fs st), (mq_ss st), li, wc, pl, pc, kw, sa, pcs) v1 v2 := by
  unfold wpX_accounts
  exact xk_taskB (fun a => br_f (by decide) (xk_stateB (fun b => absurd h (fun z => z.elim a b)) (br_t rfl K))) (br_t rfl K)
theorem xk_planned_b (h : (v1 < 0 ∨ nI 128 ≤ v1) ∨ (v2 < 0 ∨ nI 32 ≤ v2)) (K : post (-1) (xpr, xsz, xkn, xsw, xsl, xsc, cn, ef, tk, dm, (mq_fs st), (mq_ss st), li, wc, pl, pc, kw, sa, pcs)) : wpX_planned post (xpr, xsz, xkn, xsw, xsl, xsc, cn, ef, tk, dm, (mq_fs st), (mq_ss st), li, wc, pl, pc, kw, sa, pcs) v1 v2 v3 :=
  br_c (fun _ => K) (fun a => br_c (fun _ => K) (fun b => xk_stateB (fun c => absurd h (fun z => z.elim (fun z => z.elim a (fun q => b (mq_lt_of_le 127 (by decide) q))) c)) (br_t rfl K)))
theorem xk_after_b (h : v1 < 0 ∨ nI 32 ≤ v1) (K : post (-1) (xpr, xsz, xkn, xsw, xsl, xsc, cn, ef, tk, dm, (mq_fs st), (mq_ss st), li, wc, pl, pc, kw, sa, pcs)) : wpX_after post (xpr, xsz, xkn, xsw, xsl, xsc, cn, ef, tk, dm, (mq_fs st), (mq_ss st), li, wc, pl, pc, kw, sa, pcs) v1 := by
  unfold wpX_after
  exact xk_state0 h (br_t rfl K)
theorem xk_doable_b (h : v1 < 0 ∨ nI 32 ≤ v1) (K : post (-1) (xpr, xsz, xkn, xsw, xsl, xsc, cn, ef, tk, dm, (mq_fs st), (mq_ss st), li, wc, pl, pc, kw, sa, pcs)) : wpX_doable post (xpr, xsz, xkn, xsw, xsl, xsc, cn, ef, tk, dm, (mq_fs st), (mq_ss st), li, wc, pl, pc, kw, sa, pcs) v1 := by
  unfold wpX_doable
  exact xk_state0 h (br_t rfl K)
theorem xk_has_b {post : Int32 → Prop} (h : v1 < 0 ∨ nI 8 ≤ v1) (K : post 0) : wpX_has post (xpr, xsz, xkn, xsw, xsl, xsc, cn, ef, tk, dm, (mq_fs st), (mq_ss st), li, wc, pl, pc, kw, sa, pcs) v1 := br_c (fun _ => K) (fun z => br_t (mq_not h z) K)
end
section
variable {post : Int32 → SY → Prop} {v1 v2 v3 : Int32} {ywr ykn ymd yop yst yps ybs : Int32} {cn ef th tk dm st li yc yag ypl ybe : Nat → Int32}
theorem yk_ways_b (h : (v1 < 0 ∨ nI 4 ≤ v1) ∨ (v2 < 0 ∨ nI 32 ≤ v2) ∨ (v3 < 0 ∨ nI 32 ≤ v3)) (K : post (-1) (ywr, ykn, ymd, yop, yst, yps, ybs, cn, ef, th, tk, dm, st, li, yc, yag, ypl, ybe)) : wpY_ways post (ywr, ykn, ymd, yop, yst, yps, ybs, cn, ef, th, tk, dm, st, li, yc, yag, ypl, ybe) v1 v2 v3 := by
  unfold wpY_ways
  exact yk_taskB (fun a => br_f (by decide) (yk_stateB (fun b => br_f (by decide) (yk_stateB (fun c => absurd h (fun z => z.elim a (fun z => z.elim b c))) (br_t rfl K))) (br_t rfl K))) (br_t rfl K)
theorem yk_nextEnd_b (h : (v1 < 0 ∨ nI 4 ≤ v1) ∨ (v2 < 0 ∨ nI 32 ≤ v2) ∨ (v3 < 0 ∨ nI 32 ≤ v3)) (K : post (-1) (ywr, ykn, ymd, yop, yst, yps, ybs, cn, ef, th, tk, dm, st, li, yc, yag, ypl, ybe)) : wpY_nextEnd post (ywr, ykn, ymd, yop, yst, yps, ybs, cn, ef, th, tk, dm, st, li, yc, yag, ypl, ybe) v1 v2 v3 := by
  unfold wpY_nextEnd
  exact yk_taskB (fun a => br_f (by decide) (yk_stateB (fun b => br_f (by decide) (yk_stateB (fun c => absurd h (fun z => z.elim a (fun z => z.elim b c))) (br_t rfl K))) (br_t rfl K))) (br_t rfl K)
theorem yk_shortest_b (h : (v1 < 0 ∨ nI 4 ≤ v1) ∨ (v2 < 0 ∨ nI 32 ≤ v2) ∨ (v3 < 0 ∨ nI 32 ≤ v3)) (K : post (-1) (ywr, ykn, ymd, yop, yst, yps, ybs, cn, ef, th, tk, dm, st, li, yc, yag, ypl, ybe)) : wpY_shortest post (ywr, ykn, ymd, yop, yst, yps, ybs, cn, ef, th, tk, dm, st, li, yc, yag, ypl, ybe) v1 v2 v3 := by
  unfold wpY_shortest
  exact yk_taskB (fun a => br_f (by decide) (yk_stateB (fun b => br_f (by decide) (yk_stateB (fun c => absurd h (fun z => z.elim a (fun z => z.elim b c))) (br_t rfl K))) (br_t rfl K))) (br_t rfl K)
theorem yk_allWays_b (h : (v1 < 0 ∨ nI 4 ≤ v1) ∨ (v2 < 0 ∨ nI 32 ≤ v2)) (K : post (-1) (ywr, ykn, ymd, yop, yst, yps, ybs, cn, ef, th, tk, dm, st, li, yc, yag, ypl, ybe)) : wpY_allWays post (ywr, ykn, ymd, yop, yst, yps, ybs, cn, ef, th, tk, dm, st, li, yc, yag, ypl, ybe) v1 v2 := by
  unfold wpY_allWays
  exact yk_taskB (fun a => br_f (by decide) (yk_stateB (fun b => absurd h (fun z => z.elim a b)) (br_t rfl K))) (br_t rfl K)
theorem yk_accounts_b (h : (v1 < 0 ∨ nI 4 ≤ v1) ∨ (v2 < 0 ∨ nI 32 ≤ v2)) (K : post 0 (ywr, 0, ymd, yop, yst, yps, ybs, cn, ef, th, tk, dm, st, li, yc, yag, ypl, ybe)) : wpY_accounts post (ywr, ykn, ymd, yop, yst, yps, ybs, cn, ef, th, tk, dm, st, li, yc, yag, ypl, ybe) v1 v2 := by
  unfold wpY_accounts
  refine ⟨1, ?_⟩
  unfold wY_accounts_7
  exact yk_taskB (fun a => br_f (by decide) (yk_stateB (fun b => absurd h (fun z => z.elim a b)) (br_t rfl (And.intro narrow_b0 K)))) (br_t rfl (And.intro narrow_b0 K))
theorem yk_planned_b (h : (v1 < 0 ∨ nI 128 ≤ v1) ∨ (v2 < 0 ∨ nI 32 ≤ v2)) (K : post (-1) (ywr, ykn, ymd, yop, yst, yps, ybs, cn, ef, th, tk, dm, st, li, yc, yag, ypl, ybe)) : wpY_planned post (ywr, ykn, ymd, yop, yst, yps, ybs, cn, ef, th, tk, dm, st, li, yc, yag, ypl, ybe) v1 v2 v3 :=
  br_c (fun _ => K) (fun a => br_c (fun _ => K) (fun b => yk_stateB (fun c => absurd h (fun z => z.elim (fun z => z.elim a (fun q => b (mq_lt_of_le 127 (by decide) q))) c)) (br_t rfl K)))
theorem yk_after_b {post : Int32 → Prop} (h : v1 < 0 ∨ nI 32 ≤ v1) (K : post (-1)) : wpY_after post (ywr, ykn, ymd, yop, yst, yps, ybs, cn, ef, th, tk, dm, st, li, yc, yag, ypl, ybe) v1 := by
  unfold wpY_after
  exact yk_state0 h (br_t rfl ⟨1, br_c (fun _ => K) (fun _ => br_t (by decide) K)⟩)
theorem yk_doable_b (h : v1 < 0 ∨ nI 32 ≤ v1) (K : post (-1) (ywr, ykn, ymd, yop, yst, yps, ybs, cn, ef, th, tk, dm, st, li, yc, yag, ypl, ybe)) : wpY_doable post (ywr, ykn, ymd, yop, yst, yps, ybs, cn, ef, th, tk, dm, st, li, yc, yag, ypl, ybe) v1 := by
  unfold wpY_doable
  refine ⟨1, br_f (by decide) (yk_state0 h (br_t rfl ?_))⟩
  unfold wY_doable_47
  exact yk_state0 h (br_t rfl K)
theorem yk_ways {t s e : Nat} (w : mq_W th tk st) (ht : t < 4) (hs : s < 32) (he : e < 32) (K : ∀ ykn ymd yop yst yps yc yag ypl, post (nI (mp_pe ((mq_E cn ef th tk dm st) (8 + t) s) e).length) (ywr, ykn, ymd, yop, yst, yps, ybs, cn, ef, th, tk, dm, st, li, yc, yag, ypl, ybe)) : wpY_ways post (ywr, ykn, ymd, yop, yst, yps, ybs, cn, ef, th, tk, dm, st, li, yc, yag, ypl, ybe) (nI t) (nI s) (nI e) := by
  unfold wpY_ways
  exact yk_task1 ht (br_f (by decide) (yk_state1 hs (br_f (by decide) (yk_state1 he (br_f (by decide) (yk_countE w ht hs he K))))))
theorem yk_allWays {t s : Nat} (w : mq_W th tk st) (ht : t < 4) (hs : s < 32) (K : ∀ ykn ymd yop yst yps yc yag ypl, post (nI ((mq_E cn ef th tk dm st) (8 + t) s).length) (ywr, ykn, ymd, yop, yst, yps, ybs, cn, ef, th, tk, dm, st, li, yc, yag, ypl, ybe)) : wpY_allWays post (ywr, ykn, ymd, yop, yst, yps, ybs, cn, ef, th, tk, dm, st, li, yc, yag, ypl, ybe) (nI t) (nI s) := by
  unfold wpY_allWays
  exact yk_task1 ht (br_f (by decide) (yk_state1 hs (br_f (by decide) (yk_countA w ht hs K))))
theorem yk_nextEnd {t s e : Nat} (w : mq_W th tk st) (ht : t < 4) (hs : s < 32) (he : e < 32) (K : ∀ l ykn ymd yop yst yps yc yag ypl, mq_nx ((mq_E cn ef th tk dm st) (8 + t) s) e l → post l (ywr, ykn, ymd, yop, yst, yps, ybs, cn, ef, th, tk, dm, st, li, yc, yag, ypl, ybe)) : wpY_nextEnd post (ywr, ykn, ymd, yop, yst, yps, ybs, cn, ef, th, tk, dm, st, li, yc, yag, ypl, ybe) (nI t) (nI s) (nI e) := by
  unfold wpY_nextEnd
  exact yk_task1 ht (br_f (by decide) (yk_state1 hs (br_f (by decide) (yk_state1 he (br_f (by decide) ⟨((mq_E cn ef th tk dm st) (8 + t) s).length + 1, yk_nxE w ht hs he ((mq_E cn ef th tk dm st) (8 + t) s) [] _ _ _ _ _ _ _ _ _ _ (Nat.lt_succ_self _) (fun x hx => (mq_E_ok w (by omega) (by omega) hs x hx).1) (mq_R_0 w ht) (Or.inl ⟨rfl, fun x hx => nomatch hx⟩) K⟩)))))
def mq_sh (M : List (List Nat)) (r : Int32) : Prop := (M = [] ∧ r = -1) ∨ ∃ a b, mp_bs M a b ∧ r = nI a
theorem mq_sh_uniq {M : List (List Nat)} {r r' : Int32} (h : mq_sh M r) (h' : mq_sh M r') : r = r' := by
  rcases h with ⟨a, b⟩ | ⟨a, b, c, d⟩ <;> rcases h' with ⟨a', b'⟩ | ⟨a', b', c', d'⟩
  · rw [b, b']
  · exact absurd a (mp_bs_ne c')
  · exact absurd a' (mp_bs_ne c)
  · rw [d, d', (mp_bs_uniq c c').1]
theorem yk_shortest {t s e : Nat} (w : mq_W th tk st) (ht : t < 4) (hs : s < 32) (he : e < 32) (K : ∀ r, mq_sh (mp_pe ((mq_E cn ef th tk dm st) (8 + t) s) e) r → ∀ ykn ymd yop yst yps ybs yc yag ypl ybe, post r (ywr, ykn, ymd, yop, yst, yps, ybs, cn, ef, th, tk, dm, st, li, yc, yag, ypl, ybe)) : wpY_shortest post (ywr, ykn, ymd, yop, yst, yps, ybs, cn, ef, th, tk, dm, st, li, yc, yag, ypl, ybe) (nI t) (nI s) (nI e) := by
  unfold wpY_shortest
  refine yk_task1 ht (br_f (by decide) (yk_state1 hs (br_f (by decide) (yk_state1 he (br_f (by decide) (yk_search w ht hs he (fun ykn ymd yop yst yps ybs yc yag ypl ybe S => K ybs ?_ _ _ _ _ _ _ _ _ _ _)))))))
  rcases S with ⟨a, b⟩ | ⟨q, hq, eq, _, l⟩
  · exact Or.inl ⟨a, b⟩
  · exact Or.inr ⟨_, _, ⟨q, hq, rfl, rfl, l⟩, eq⟩
def mq_pd (M : List (List Nat)) (p : Int32) (r : Int32) : Prop := (r = -1 ∧ (M = [] ∨ p < 0 ∨ ∃ a b, mp_bs M a b ∧ ¬ p < nI a)) ∨ ∃ a b i, mp_bs M a b ∧ p = nI i ∧ i < a ∧ a ≤ 16 ∧ r = nI (b / 6 ^ (a - 1 - i) % 6)
theorem mq_pd_x {M : List (List Nat)} {p : Int32} {a b i : Nat} (h : M = [] ∨ p < 0 ∨ ∃ a b, mp_bs M a b ∧ ¬ p < nI a) (c : mp_bs M a b) (e : p = nI i) (l : i < a) (l2 : a ≤ 16) : False := by
  rcases h with h | h | ⟨a', b', c', h⟩
  · exact mp_bs_ne c h
  · rw [e] at h
    exact nI_pos (by omega) h
  · rw [e, (mp_bs_uniq c' c).1] at h
    exact h (nI_lt l (by omega))
theorem mq_pd_uniq {M : List (List Nat)} {p r r' : Int32} (h : mq_pd M p r) (h' : mq_pd M p r') : r = r' := by
  rcases h with ⟨e, h⟩ | ⟨a, b, i, c, e1, l, l2, e⟩ <;> rcases h' with ⟨e', h'⟩ | ⟨a', b', i', c', e1', l', l2', e'⟩
  · rw [e, e']
  · exact (mq_pd_x h c' e1' l' l2').elim
  · exact (mq_pd_x h' c e1 l l2).elim
  · obtain ⟨q1, q2⟩ := mp_bs_uniq c c'
    have q3 : i = i' := (nI_eq (by omega) (by omega)).mp (e1.symm.trans e1')
    rw [e, e', q1, q2, q3]
theorem yk_planned {t s e q : Nat} {p2 : Int32} (w : mq_W th tk st) (hq : q < 128) (et : q % 4 = t) (ee : q / 4 = e) (hs : s < 32)
    (K : ∀ r, mq_pd (mp_pe ((mq_E cn ef th tk dm st) (8 + t) s) e) p2 r → ∀ ykn ymd yop yst yps ybs yc yag ypl ybe, post r (ywr, ykn, ymd, yop, yst, yps, ybs, cn, ef, th, tk, dm, st, li, yc, yag, ypl, ybe)) : wpY_planned post (ywr, ykn, ymd, yop, yst, yps, ybs, cn, ef, th, tk, dm, st, li, yc, yag, ypl, ybe) (nI q) (nI s) p2 := by
  have ht : t < 4 := by omega
  have he : e < 32 := by omega
  have e3 : nI q &&& 3 = nI t := by rw [pk_andN (by omega) 2 (by decide)]; exact congrArg nI et
  have e4 : nI q >>> ((2 : Int32) &&& 31) = nI e := by rw [pk_shrN (by omega) _ 2 (by decide)]; exact congrArg nI ee
  refine br_f (nI_pos (by omega)) (br_f (nI_nlt (a := 127) (b := q) (by omega) (by decide)) (yk_state1 hs (br_f (by decide) ?_)))
  rw [e3, e4]
  refine yk_search w ht hs he (fun ykn ymd yop yst yps ybs yc yag ypl ybe S => br_c (fun n => K (-1) (Or.inl ⟨rfl, Or.inr (Or.inl n)⟩) _ _ _ _ _ _ _ _ _ _) (fun n => ?_))
  obtain ⟨k, hk, rfl⟩ := nI_of n
  rcases S with ⟨a, b⟩ | ⟨p, hp, ep, g, l⟩
  · subst b
    refine br_t ?_ (K (-1) (Or.inl ⟨rfl, Or.inl a⟩) _ _ _ _ _ _ _ _ _ _)
    rw [Int32.le_iff_toInt_le, nI_toInt hk, show (-1 : Int32).toInt = -1 from by decide]
    omega
  · subst ep
    have wb := mq_E_wb (cn := cn) (ef := ef) (dm := dm) w (show 8 + t < 12 from by omega) (by omega) hs e p hp
    have bs : mp_bs (mp_pe ((mq_E cn ef th tk dm st) (8 + t) s) e) p.length (mp_code p) := ⟨p, hp, rfl, rfl, l⟩
    refine pk_le p.length k (fun h => K (-1) (Or.inl ⟨rfl, Or.inr (Or.inr ⟨_, _, bs, nI_nlt h hk⟩)⟩) _ _ _ _ _ _ _ _ _ _) (fun h => And.intro (vp_in_nI (by omega) (by decide)) ?_) (ha := by omega)
    have gk := mp_la_get g h
    rw [Nat.zero_add] at gk
    rw [nI_clamp hk, gk]
    refine K _ (Or.inr ⟨_, _, k, bs, rfl, h, wb.1, ?_⟩) _ _ _ _ _ _ _ _ _ _
    rw [mp_code_dig p k wb.2 h]
end
end
section
/-! what is owed -/
section
variable {post : Int32 → Prop} {ywr ykn ymd yop yst yps ybs : Int32} {cn ef th tk dm st li yc yag ypl ybe : Nat → Int32}
theorem xk_sok {t x : Nat} (ht : t < 4) (hx : x < 2 ^ 30) (h1 : mp_sk t x → post 1) (h0 : ¬ mp_sk t x → post 0) : wpX_stepOk post (nI t) (nI x) := by
  unfold mp_sk at h1 h0
  have far : ¬ x ≤ 6 → wX_stepOk_12 post (nI t) (nI x) := by
    intro h6
    refine pk_lt x 8 (fun h => h0 (by omega)) (fun h => pk_le 12 x (fun h2 => h0 (by omega)) (fun h2 => ?_))
    have e : nI x - 8 = nI (x - 8) := pk_sub (b := 8) h
    rw [e]
    exact pk_le (x - 8) t (fun h3 => h0 (by omega)) (fun h3 => h1 (by omega))
  refine pk_lt x 0 (fun h => by omega) (fun _ => pk_lt 6 x (fun h => far (by omega)) (fun h => h1 (by omega)))
theorem yk_sok {t x : Nat} (ht : t < 4) (hx : x < 2 ^ 30) (h1 : mp_sk t x → post 1) (h0 : ¬ mp_sk t x → post 0) : wpY_step post (ywr, ykn, ymd, yop, yst, yps, ybs, cn, ef, th, tk, dm, st, li, yc, yag, ypl, ybe) (nI t) (nI x) := by
  unfold mp_sk at h1 h0
  have far : ¬ x ≤ 6 → wY_step_10 post (nI t) (nI x) ywr ykn ymd yop yst yps ybs cn ef th tk dm st li yc yag ypl ybe := by
    intro h6
    unfold wY_step_10
    have e : (8 : Int32) + nI t = nI (8 + t) := nI_add 8 t
    rw [e]
    exact pk_le x (8 + t) (fun h => h0 (by omega)) (fun h => pk_lt 11 x (fun h2 => h0 (by omega)) (fun h2 => h1 (by omega)))
  refine pk_lt x 0 (fun h => by omega) (fun _ => pk_le x 6 (fun h => h1 (by omega)) (fun h => far (by omega)))
end
section
variable {xpr xsz xkn xsw xsl : Int32} {xsc : Int64} {cn ef th tk dm st li wc pl kw sa pcs : Nat → Int32} {pc : Nat → Int64}
theorem xk_me0 {post : Int32 → SX → Prop} {t c q : Nat} (B : mq_B xpr th) (ht : t < 4) (hc : c < 1024) (hq : q < 192)
    (Kf : (∀ k, k < 8 → ¬ th k = 0) → post (-2) (xpr, xsz, xkn, xsw, xsl, xsc, cn, ef, tk, dm, (mq_fs st), (mq_ss st), li, wc, pl, pc, kw, sa, pcs))
    (K : ∀ m, m < 8 → th m = 0 → (∀ k, k < m → ¬ th k = 0) → post (nI m) (xpr ||| ((1 : Int32) <<< (nI m &&& 31)), xsz, 0, xsw, xsl, xsc, cn, ef, upd tk m (nI t), upd dm m (nI c), upd (mq_fs st) m (nI (q % 16)), upd (mq_ss st) m (nI (q / 16)), li, wc, pl, pc, kw, sa, pcs)) :
    ∀ d j f, j + d = 8 → d < f → (∀ k, k < j → ¬ th k = 0) → wX_method_44 post (nI t) (nI c) (nI q) xpr xsz xkn xsw xsl xsc cn ef tk dm (mq_fs st) (mq_ss st) li wc pl pc kw sa pcs f (nI j) := by
  intro d
  induction d with
  | zero =>
    intro j f h1 h2 H
    obtain ⟨f, rfl⟩ : ∃ k', f = k' + 1 := ⟨f - 1, by omega⟩
    have : j = 8 := by omega
    subst this
    exact br_t (nI_le (a := 8) (b := 8) (by omega) (by omega)) (Kf H)
  | succ d ih =>
    intro j f h1 h2 H
    obtain ⟨f, rfl⟩ : ∃ k', f = k' + 1 := ⟨f - 1, by omega⟩
    have hj : j < 8 := by omega
    have iv : vp_in (nI j) 8 := vp_in_nI hj (by decide)
    have ej : (nI j).toNatClampNeg = j := nI_clamp (by omega)
    have e1 : nI q &&& 15 = nI (q % 16) := pk_andN (by omega) 4 (by decide)
    have e2 : nI q >>> ((4 : Int32) &&& 31) = nI (q / 16) := pk_shrN (by omega) _ 4 (by decide)
    refine pk_le 8 j (fun h => by omega) (fun _ => xk_has B hj (fun o => br_f (by decide) (nm_r (nI_1 j) (ih (j + 1) f (by omega) (by omega) (fun k hk => ?_)))) (fun o => br_t rfl ?_))
    · by_cases z : k = j
      · rw [z]; exact o
      · exact H k (by omega)
    · intro y ey
      subst ey
      refine And.intro iv (nm_r (e' := upd tk j (nI t)) (by rw [ej, mq_nb (by omega)]) (And.intro iv (nm_r (e' := upd dm j (nI c)) (by rw [ej, mq_ns hc]) (And.intro iv (nm_r (e' := upd (mq_fs st) j (nI (q % 16))) (by rw [ej, e1, mq_nb (by omega)]) (And.intro iv (nm_r (e' := upd (mq_ss st) j (nI (q / 16))) (by rw [ej, e2, mq_nb (by omega)]) (K j hj o H))))))))
end
section
variable {ywr ykn ymd yop yst yps ybs : Int32} {cn ef th tk dm st li yc yag ypl ybe : Nat → Int32}
theorem yk_mt0 {post : Int32 → SY → Prop} {x1 x2 x3 : Int32}
    (Kf : (∀ k, k < 8 → ¬ th k = 0) → post (-2) (ywr, ykn, ymd, yop, yst, yps, ybs, cn, ef, th, tk, dm, st, li, yc, yag, ypl, ybe))
    (K : ∀ m, m < 8 → th m = 0 → (∀ k, k < m → ¬ th k = 0) → post (nI m) (ywr, ykn, ymd, yop, yst, yps, ybs, cn, ef, upd th m 1, upd tk m x1, upd dm m x2, upd st m x3, li, yc, yag, ypl, ybe)) :
    ∀ d j f, j + d = 8 → d < f → (∀ k, k < j → ¬ th k = 0) → wY_method_55 post x1 x2 x3 ywr ykn ymd yop yst yps ybs cn ef th tk dm st li yc yag ypl ybe f (nI j) := by
  intro d
  induction d with
  | zero =>
    intro j f h1 h2 H
    obtain ⟨f, rfl⟩ : ∃ k', f = k' + 1 := ⟨f - 1, by omega⟩
    have : j = 8 := by omega
    subst this
    exact br_t (nI_le (a := 8) (b := 8) (by omega) (by omega)) (Kf H)
  | succ d ih =>
    intro j f h1 h2 H
    obtain ⟨f, rfl⟩ : ∃ k', f = k' + 1 := ⟨f - 1, by omega⟩
    have hj : j < 8 := by omega
    have iv : vp_in (nI j) 8 := vp_in_nI hj (by decide)
    have ej : (nI j).toNatClampNeg = j := nI_clamp (by omega)
    refine pk_le 8 j (fun h => by omega) (fun _ => And.intro iv ?_)
    rw [ej]
    refine br_c (fun o => And.intro iv (nm_r (e' := upd th j 1) (by rw [mq_nz1]) (And.intro iv (nm_r (e' := upd tk j x1) rfl (And.intro iv (nm_r (e' := upd dm j x2) rfl (And.intro iv (nm_r (e' := upd st j x3) rfl (K j hj o H))))))))) (fun o => nm_r (nI_1 j) (ih (j + 1) f (by omega) (by omega) (fun k hk => ?_)))
    by_cases z : k = j
    · rw [z]; exact o
    · exact H k (by omega)
end
theorem mq_fs_upd (st : Nat → Int32) (m : Nat) {q : Nat} (hq : q < 192) : upd (mq_fs st) m (nI (q % 16)) = mq_fs (upd st m (nI q)) := by
  funext k
  unfold mq_fs
  by_cases z : k = m
  · rw [z, pk_us, pk_us]
    exact (pk_andN (by omega) 4 (by decide)).symm
  · rw [pk_un z, pk_un z]
theorem mq_ss_upd (st : Nat → Int32) (m : Nat) {q : Nat} (hq : q < 192) : upd (mq_ss st) m (nI (q / 16)) = mq_ss (upd st m (nI q)) := by
  funext k
  unfold mq_ss
  by_cases z : k = m
  · rw [z, pk_us, pk_us]
    exact (pk_shrN (by omega) _ 4 (by decide)).symm
  · rw [pk_un z, pk_un z]
theorem mq_W_set {th tk st : Nat → Int32} (w : mq_W th tk st) {m t q : Nat} (ht : t < 4) (hq : q < 192) (k1 : mp_sk t (q % 16)) (k2 : mp_sk t (q / 16)) : mq_W (upd th m 1) (upd tk m (nI t)) (upd st m (nI q)) := by
  intro k hk h
  by_cases z : k = m
  · subst z
    have a : mq_fs (upd st k (nI q)) k = nI (q % 16) := by rw [← mq_fs_upd st k hq, pk_us]
    have b : mq_ss (upd st k (nI q)) k = nI (q / 16) := by rw [← mq_ss_upd st k hq, pk_us]
    have a' : mq_s1 (upd st k (nI q)) k = q % 16 := by unfold mq_s1; rw [a, nI_clamp (by omega)]
    have b' : mq_s2 (upd st k (nI q)) k = q / 16 := by unfold mq_s2; rw [b, nI_clamp (by omega)]
    rw [a', b', a, b]
    exact ⟨t, ht, pk_us, k1, k2, rfl, rfl⟩
  · rw [pk_un z] at h
    obtain ⟨t', a1, a2, a3, a4, a5, a6⟩ := w k hk h
    have a : mq_fs (upd st m (nI q)) k = mq_fs st k := by rw [← mq_fs_upd st m hq, pk_un z]
    have b : mq_ss (upd st m (nI q)) k = mq_ss st k := by rw [← mq_ss_upd st m hq, pk_un z]
    have a' : mq_s1 (upd st m (nI q)) k = mq_s1 st k := by unfold mq_s1; rw [a]
    have b' : mq_s2 (upd st m (nI q)) k = mq_s2 st k := by unfold mq_s2; rw [b]
    rw [a', b', a, b, pk_un z]
    exact ⟨t', a1, a2, a3, a4, a5, a6⟩
theorem i_vc0 : wpX_init (fun u => wpY_init (fun v => i_Rel 0 u v)) := by
  refine ⟨rfl, rfl, rfl, rfl, funext (fun _ => show (0 : Int32) = 0 &&& 15 from by decide), funext (fun _ => show (0 : Int32) = 0 >>> ((4 : Int32) &&& 31) from by decide), rfl, 0, rfl, rfl, ?_, ?_, Or.inl rfl, by decide, ?_⟩
  · intro m _ h
    exact absurd rfl h
  · refine ⟨0, by decide, rfl, fun m _ => ?_⟩
    rw [Nat.zero_testBit]
    rfl
  · intro i hi
    exact absurd hi (Nat.not_lt_zero _)
theorem i_vc_action {k : Nat} {u : SX} {v : SY} (I : i_Rel k u v) (hk : k + 4 ≤ 2048) (v1 : Int32) (v2 : Int32) (v3 : Int32) : wpX_action (fun r u' => wpY_action (fun r' v' => r' = r ∧ i_Rel (k + 4) u' v') v v1 v2 v3) u v1 v2 v3 := by
  refine mq_el (P := fun u v => wpX_action (fun r u' => wpY_action (fun r' v' => r' = r ∧ i_Rel (k + 4) u' v') v v1 v2 v3) u v1 v2 v3) ?_ I
  intro xpr xkn xsw xsl xsc n cn ef th tk dm st li wc pl kw sa pcs pc ykn ymd yop yst yps ybs yc yag ypl ybe w B hk n8 hl
  have keep : (0 : Int32) = 0 ∧ i_Rel (k + 4) (xpr, nI n, xkn, xsw, xsl, xsc, cn, ef, tk, dm, (mq_fs st), (mq_ss st), li, wc, pl, pc, kw, sa, pcs) (nI n, ykn, ymd, yop, yst, yps, ybs, cn, ef, th, tk, dm, st, li, yc, yag, ypl, ybe) := ⟨rfl, mq_mk ⟨w, B, hk, n8, hl⟩⟩
  rcases mq_ix v1 (n := 6) (by decide) with h1 | ⟨a, ha, rfl⟩
  · have Y : wpY_action (fun r' v' => r' = 0 ∧ i_Rel (k + 4) (xpr, nI n, xkn, xsw, xsl, xsc, cn, ef, tk, dm, (mq_fs st), (mq_ss st), li, wc, pl, pc, kw, sa, pcs) v') (nI n, ykn, ymd, yop, yst, yps, ybs, cn, ef, th, tk, dm, st, li, yc, yag, ypl, ybe) v1 v2 v3 := br_c (fun _ => keep) (fun z => br_t (mq_lt_of_le 5 (by decide) (mq_not h1 z)) keep)
    exact br_c (fun _ => Y) (fun z => br_t (mq_not h1 z) Y)
  · have iv : vp_in (nI a) 6 := vp_in_nI ha (by decide)
    have ea : (nI a).toNatClampNeg = a := nI_clamp (by omega)
    refine br_f (nI_pos (by omega)) (br_f (nI_ge (a := a) (b := 6) ha (by decide)) ?_)
    rcases mq_ix v2 (n := 1024) (by decide) with h2 | ⟨c, hc, rfl⟩
    · exact xk_pack0 h2 (br_t rfl (br_f (nI_pos (by omega)) (br_f (nI_nlt (a := 5) (b := a) (by omega) (by decide)) (yk_pack0 h2 (br_t rfl keep)))))
    · refine xk_pack1 hc (br_f (by decide) ?_)
      rcases mq_ix v3 (n := 1024) (by decide) with h3 | ⟨d, hd, rfl⟩
      · exact xk_pack0 h3 (br_t rfl (br_f (nI_pos (by omega)) (br_f (nI_nlt (a := 5) (b := a) (by omega) (by decide)) (yk_pack1 hc (br_f (by decide) (yk_pack0 h3 (br_t rfl keep)))))))
      · refine xk_pack1 hd (br_f (by decide) (And.intro iv (nm_r (e' := upd cn a (nI c)) (by rw [ea, mq_ns hc]) (And.intro iv (nm_r (e' := upd ef a (nI d)) (by rw [ea, mq_ns hd]) ?_)))))
        refine br_f (nI_pos (by omega)) (br_f (nI_nlt (a := 5) (b := a) (by omega) (by decide)) (yk_pack1 hc (br_f (by decide) (yk_pack1 hd (br_f (by decide) (And.intro iv (nm_r (e' := upd cn a (nI c)) (by rw [ea]) (And.intro iv (nm_r (e' := upd ef a (nI d)) (by rw [ea]) ⟨rfl, mq_mk ⟨w, B, Or.inl rfl, n8, hl⟩⟩)))))))))
theorem i_vc_method {k : Nat} {u : SX} {v : SY} (I : i_Rel k u v) (hk : k + 4 ≤ 2048) (v1 : Int32) (v2 : Int32) (v3 : Int32) : wpX_method (fun r u' => wpY_method (fun r' v' => r' = r ∧ i_Rel (k + 4) u' v') v v1 v2 v3) u v1 v2 v3 := by
  refine mq_el (P := fun u v => wpX_method (fun r u' => wpY_method (fun r' v' => r' = r ∧ i_Rel (k + 4) u' v') v v1 v2 v3) u v1 v2 v3) ?_ I
  intro xpr xkn xsw xsl xsc n cn ef th tk dm st li wc pl kw sa pcs pc ykn ymd yop yst yps ybs yc yag ypl ybe w B hk n8 hl
  have keep : (-1 : Int32) = -1 ∧ i_Rel (k + 4) (xpr, nI n, xkn, xsw, xsl, xsc, cn, ef, tk, dm, (mq_fs st), (mq_ss st), li, wc, pl, pc, kw, sa, pcs) (nI n, ykn, ymd, yop, yst, yps, ybs, cn, ef, th, tk, dm, st, li, yc, yag, ypl, ybe) := ⟨rfl, mq_mk ⟨w, B, hk, n8, hl⟩⟩
  unfold wpX_method
  rcases mq_ix v1 (n := 4) (by decide) with h1 | ⟨t, ht, rfl⟩
  · refine xk_task0 h1 (br_t rfl ?_)
    unfold wpY_method
    exact yk_task0 h1 (br_t rfl keep)
  refine xk_task1 ht (br_f (by decide) ?_)
  rcases mq_ix v2 (n := 1024) (by decide) with h2 | ⟨c, hc, rfl⟩
  · refine xk_pack0 h2 (br_t rfl ?_)
    unfold wpY_method
    exact yk_task1 ht (br_f (by decide) (yk_pack0 h2 (br_t rfl keep)))
  refine xk_pack1 hc (br_f (by decide) ?_)
  by_cases h3 : v3 < 0
  · refine br_t h3 ?_
    unfold wpY_method
    exact yk_task1 ht (br_f (by decide) (yk_pack1 hc (br_f (by decide) (br_t h3 keep))))
  obtain ⟨q, hq, rfl⟩ := nI_of h3
  have e1 : nI q &&& 15 = nI (q % 16) := pk_andN (by omega) 4 (by decide)
  have e2 : nI q >>> ((4 : Int32) &&& 31) = nI (q / 16) := pk_shrN hq _ 4 (by decide)
  have bad : ¬ (mp_sk t (q % 16) ∧ mp_sk t (q / 16)) → wpY_method (fun r' v' => r' = -1 ∧ i_Rel (k + 4) (xpr, nI n, xkn, xsw, xsl, xsc, cn, ef, tk, dm, (mq_fs st), (mq_ss st), li, wc, pl, pc, kw, sa, pcs) v') (nI n, ykn, ymd, yop, yst, yps, ybs, cn, ef, th, tk, dm, st, li, yc, yag, ypl, ybe) (nI t) (nI c) (nI q) := by
    intro N
    unfold wpY_method
    refine yk_task1 ht (br_f (by decide) (yk_pack1 hc (br_f (by decide) (br_f h3 (br_c (fun _ => keep) (fun _ => ?_))))))
    rw [e1, e2]
    exact yk_sok ht (by omega) (fun s1 => br_f (by decide) (yk_sok ht (by omega) (fun s2 => absurd ⟨s1, s2⟩ N) (fun _ => br_t rfl keep))) (fun _ => br_t rfl keep)
  refine br_f h3 ?_
  rw [e1, e2]
  refine xk_sok ht (by omega) (fun s1 => br_f (by decide) (xk_sok ht (by omega) (fun s2 => br_f (by decide) ⟨9, ?_⟩) (fun N => br_t rfl (bad (fun z => N z.2))))) (fun N => br_t rfl (bad (fun z => N z.1)))
  have q192 : q < 192 := by
    unfold mp_sk at s2
    omega
  have Y : ∀ (r : Int32) (u' : SX), ((∀ k, k < 8 → ¬ th k = 0) → (-2 : Int32) = r ∧ i_Rel (k + 4) u' (nI n, ykn, ymd, yop, yst, yps, ybs, cn, ef, th, tk, dm, st, li, yc, yag, ypl, ybe)) → (∀ m, m < 8 → th m = 0 → (∀ k, k < m → ¬ th k = 0) → nI m = r ∧ i_Rel (k + 4) u' (nI n, ykn, ymd, yop, yst, yps, ybs, cn, ef, upd th m 1, upd tk m (nI t), upd dm m (nI c), upd st m (nI q), li, yc, yag, ypl, ybe)) → wpY_method (fun r' v' => r' = r ∧ i_Rel (k + 4) u' v') (nI n, ykn, ymd, yop, yst, yps, ybs, cn, ef, th, tk, dm, st, li, yc, yag, ypl, ybe) (nI t) (nI c) (nI q) := by
    intro r u' Kf K
    unfold wpY_method
    refine yk_task1 ht (br_f (by decide) (yk_pack1 hc (br_f (by decide) (br_f h3 (br_f (nI_nlt (a := 255) (b := q) (by omega) (by decide)) ?_)))))
    rw [e1, e2]
    refine yk_sok ht (by omega) (fun _ => br_f (by decide) (yk_sok ht (by omega) (fun _ => br_f (by decide) ⟨9, ?_⟩) (fun N => absurd s2 N))) (fun N => absurd s1 N)
    exact yk_mt0 Kf K 8 0 9 (by omega) (by omega) (fun k hk => absurd hk (Nat.not_lt_zero _))
  refine xk_me0 B ht hc q192 (fun F => Y _ _ (fun _ => ⟨rfl, mq_mk ⟨w, B, hk, n8, hl⟩⟩) (fun m hm z _ => absurd z (F m hm))) (fun m hm z H => Y _ _ (fun F => absurd z (F m hm)) (fun m' hm' z' H' => ?_)) 8 0 9 (by omega) (by omega) (fun k hk => absurd hk (Nat.not_lt_zero _))
  have e : m' = m := by
    by_cases l : m' < m
    · exact absurd z' (H m' l)
    · by_cases l2 : m < m'
      · exact absurd z (H' m l2)
      · omega
  subst e
  rw [mq_fs_upd st m' q192, mq_ss_upd st m' q192]
  exact ⟨rfl, mq_mk ⟨mq_W_set w ht q192 s1 s2, mq_B_set B hm, Or.inl rfl, n8, hl⟩⟩
theorem i_vc_drop {k : Nat} {u : SX} {v : SY} (I : i_Rel k u v) (hk : k + 4 ≤ 2048) (v1 : Int32) : wpX_drop (fun r u' => wpY_drop (fun r' v' => r' = r ∧ i_Rel (k + 4) u' v') v v1) u v1 := by
  refine mq_el (P := fun u v => wpX_drop (fun r u' => wpY_drop (fun r' v' => r' = r ∧ i_Rel (k + 4) u' v') v v1) u v1) ?_ I
  intro xpr xkn xsw xsl xsc n cn ef th tk dm st li wc pl kw sa pcs pc ykn ymd yop yst yps ybs yc yag ypl ybe w B hk n8 hl
  have keep : (0 : Int32) = 0 ∧ i_Rel (k + 4) (xpr, nI n, xkn, xsw, xsl, xsc, cn, ef, tk, dm, (mq_fs st), (mq_ss st), li, wc, pl, pc, kw, sa, pcs) (nI n, ykn, ymd, yop, yst, yps, ybs, cn, ef, th, tk, dm, st, li, yc, yag, ypl, ybe) := ⟨rfl, mq_mk ⟨w, B, hk, n8, hl⟩⟩
  unfold wpX_drop
  rcases mq_ix v1 (n := 8) (by decide) with h1 | ⟨m, hm, rfl⟩
  · exact xk_has_b h1 (br_t rfl (br_c (fun _ => keep) (fun z => br_t (mq_lt_of_le 7 (by decide) (mq_not h1 z)) keep)))
  · have iv : vp_in (nI m) 8 := vp_in_nI hm (by decide)
    have em : (nI m).toNatClampNeg = m := nI_clamp (by omega)
    refine xk_has B hm (fun o => br_f (by decide) ?_) (fun o => br_t rfl ?_)
    · intro y ey
      subst ey
      refine br_f (nI_pos (by omega)) (br_f (nI_nlt (a := 7) (b := m) (by omega) (by decide)) (And.intro iv ?_))
      rw [em]
      exact br_f o (And.intro iv (nm_r (e' := upd th m 0) (by rw [mq_nz0]) ⟨rfl, mq_mk ⟨mq_W_clr w m, mq_B_clr B hm, Or.inl rfl, n8, hl⟩⟩))
    · refine br_f (nI_pos (by omega)) (br_f (nI_nlt (a := 7) (b := m) (by omega) (by decide)) (And.intro iv ?_))
      rw [em]
      exact br_t o keep
theorem i_vc_methods {k : Nat} {u : SX} {v : SY} (I : i_Rel k u v) (hk : k + 4 ≤ 2048) : wpX_methods (fun r => wpY_methods (fun r' => r' = r ∧ i_Rel (k + 4) u v) v) u := by
  refine mq_el (P := fun u v => wpX_methods (fun r => wpY_methods (fun r' => r' = r ∧ i_Rel (k + 4) u v) v) u) ?_ I
  intro xpr xkn xsw xsl xsc n cn ef th tk dm st li wc pl kw sa pcs pc ykn ymd yop yst yps ybs yc yag ypl ybe w B hk n8 hl
  have mk : i_Rel (k + 4) (xpr, nI n, xkn, xsw, xsl, xsc, cn, ef, tk, dm, (mq_fs st), (mq_ss st), li, wc, pl, pc, kw, sa, pcs) (nI n, ykn, ymd, yop, yst, yps, ybs, cn, ef, th, tk, dm, st, li, yc, yag, ypl, ybe) := mq_mk ⟨w, B, hk, n8, hl⟩
  obtain ⟨P, hP, e, hth⟩ := B
  refine ⟨9, ?_⟩
  have := yk_me0 (post := fun r' => r' = xpr ∧ i_Rel (k + 4) (xpr, nI n, xkn, xsw, xsl, xsc, cn, ef, tk, dm, (mq_fs st), (mq_ss st), li, wc, pl, pc, kw, sa, pcs) (nI n, ykn, ymd, yop, yst, yps, ybs, cn, ef, th, tk, dm, st, li, yc, yag, ypl, ybe)) (ywr := nI n) (ykn := ykn) (ymd := ymd) (yop := yop) (yst := yst) (yps := yps) (ybs := ybs) (cn := cn) (ef := ef) (tk := tk) (dm := dm) (st := st) (li := li) (yc := yc) (yag := yag) (ypl := ypl) (ybe := ybe) hP hth ⟨e.symm, mk⟩ 8 0 9 (by omega) (by omega)
  rw [Nat.pow_zero, Nat.mod_one] at this
  exact this
theorem i_vc_ways {k : Nat} {u : SX} {v : SY} (I : i_Rel k u v) (hk : k + 4 ≤ 2048) (v1 : Int32) (v2 : Int32) (v3 : Int32) : wpX_ways (fun r u' => wpY_ways (fun r' v' => r' = r ∧ i_Rel (k + 4) u' v') v v1 v2 v3) u v1 v2 v3 := by
  refine mq_el (P := fun u v => wpX_ways (fun r u' => wpY_ways (fun r' v' => r' = r ∧ i_Rel (k + 4) u' v') v v1 v2 v3) u v1 v2 v3) ?_ I
  intro xpr xkn xsw xsl xsc n cn ef th tk dm st li wc pl kw sa pcs pc ykn ymd yop yst yps ybs yc yag ypl ybe w B hk n8 hl
  have bad : ((v1 < 0 ∨ nI 4 ≤ v1) ∨ (v2 < 0 ∨ nI 32 ≤ v2) ∨ (v3 < 0 ∨ nI 32 ≤ v3)) → wpX_ways (fun r u' => wpY_ways (fun r' v' => r' = r ∧ i_Rel (k + 4) u' v') (nI n, ykn, ymd, yop, yst, yps, ybs, cn, ef, th, tk, dm, st, li, yc, yag, ypl, ybe) v1 v2 v3) (xpr, nI n, xkn, xsw, xsl, xsc, cn, ef, tk, dm, (mq_fs st), (mq_ss st), li, wc, pl, pc, kw, sa, pcs) v1 v2 v3 := fun h => xk_ways_b h (yk_ways_b h ⟨rfl, mq_mk ⟨w, B, hk, n8, hl⟩⟩)
  rcases mq_ix v1 (n := 4) (by decide) with h | ⟨t, ht, rfl⟩
  · exact bad (Or.inl h)
  rcases mq_ix v2 (n := 32) (by decide) with h | ⟨s, hs, rfl⟩
  · exact bad (Or.inr (Or.inl h))
  rcases mq_ix v3 (n := 32) (by decide) with h | ⟨e, he, rfl⟩
  · exact bad (Or.inr (Or.inr h))
  exact xk_ways w B hk ht hs he (fun _ _ _ _ _ _ _ T => yk_ways w ht hs he (fun _ _ _ _ _ _ _ _ => ⟨rfl, mq_mk ⟨w, B, Or.inr T, n8, hl⟩⟩))
theorem i_vc_allWays {k : Nat} {u : SX} {v : SY} (I : i_Rel k u v) (hk : k + 4 ≤ 2048) (v1 : Int32) (v2 : Int32) : wpX_allWays (fun r u' => wpY_allWays (fun r' v' => r' = r ∧ i_Rel (k + 4) u' v') v v1 v2) u v1 v2 := by
  refine mq_el (P := fun u v => wpX_allWays (fun r u' => wpY_allWays (fun r' v' => r' = r ∧ i_Rel (k + 4) u' v') v v1 v2) u v1 v2) ?_ I
  intro xpr xkn xsw xsl xsc n cn ef th tk dm st li wc pl kw sa pcs pc ykn ymd yop yst yps ybs yc yag ypl ybe w B hk n8 hl
  have bad : ((v1 < 0 ∨ nI 4 ≤ v1) ∨ (v2 < 0 ∨ nI 32 ≤ v2)) → wpX_allWays (fun r u' => wpY_allWays (fun r' v' => r' = r ∧ i_Rel (k + 4) u' v') (nI n, ykn, ymd, yop, yst, yps, ybs, cn, ef, th, tk, dm, st, li, yc, yag, ypl, ybe) v1 v2) (xpr, nI n, xkn, xsw, xsl, xsc, cn, ef, tk, dm, (mq_fs st), (mq_ss st), li, wc, pl, pc, kw, sa, pcs) v1 v2 := fun h => xk_allWays_b h (yk_allWays_b h ⟨rfl, mq_mk ⟨w, B, hk, n8, hl⟩⟩)
  rcases mq_ix v1 (n := 4) (by decide) with h | ⟨t, ht, rfl⟩
  · exact bad (Or.inl h)
  rcases mq_ix v2 (n := 32) (by decide) with h | ⟨s, hs, rfl⟩
  · exact bad (Or.inr h)
  exact xk_allWays w B hk ht hs (fun _ _ _ _ _ _ _ T => yk_allWays w ht hs (fun _ _ _ _ _ _ _ _ => ⟨rfl, mq_mk ⟨w, B, Or.inr T, n8, hl⟩⟩))
theorem i_vc_nextEnd {k : Nat} {u : SX} {v : SY} (I : i_Rel k u v) (hk : k + 4 ≤ 2048) (v1 : Int32) (v2 : Int32) (v3 : Int32) : wpX_nextEnd (fun r u' => wpY_nextEnd (fun r' v' => r' = r ∧ i_Rel (k + 4) u' v') v v1 v2 v3) u v1 v2 v3 := by
  refine mq_el (P := fun u v => wpX_nextEnd (fun r u' => wpY_nextEnd (fun r' v' => r' = r ∧ i_Rel (k + 4) u' v') v v1 v2 v3) u v1 v2 v3) ?_ I
  intro xpr xkn xsw xsl xsc n cn ef th tk dm st li wc pl kw sa pcs pc ykn ymd yop yst yps ybs yc yag ypl ybe w B hk n8 hl
  have bad : ((v1 < 0 ∨ nI 4 ≤ v1) ∨ (v2 < 0 ∨ nI 32 ≤ v2) ∨ (v3 < 0 ∨ nI 32 ≤ v3)) → wpX_nextEnd (fun r u' => wpY_nextEnd (fun r' v' => r' = r ∧ i_Rel (k + 4) u' v') (nI n, ykn, ymd, yop, yst, yps, ybs, cn, ef, th, tk, dm, st, li, yc, yag, ypl, ybe) v1 v2 v3) (xpr, nI n, xkn, xsw, xsl, xsc, cn, ef, tk, dm, (mq_fs st), (mq_ss st), li, wc, pl, pc, kw, sa, pcs) v1 v2 v3 := fun h => xk_nextEnd_b h (yk_nextEnd_b h ⟨rfl, mq_mk ⟨w, B, hk, n8, hl⟩⟩)
  rcases mq_ix v1 (n := 4) (by decide) with h | ⟨t, ht, rfl⟩
  · exact bad (Or.inl h)
  rcases mq_ix v2 (n := 32) (by decide) with h | ⟨s, hs, rfl⟩
  · exact bad (Or.inr (Or.inl h))
  rcases mq_ix v3 (n := 32) (by decide) with h | ⟨e, he, rfl⟩
  · exact bad (Or.inr (Or.inr h))
  exact xk_nextEnd w B hk ht hs he (fun _ _ _ _ _ _ _ T l N => yk_nextEnd w ht hs he (fun l' _ _ _ _ _ _ _ _ N' => ⟨mq_nx_uniq N' N, mq_mk ⟨w, B, Or.inr T, n8, hl⟩⟩))
theorem i_vc_shortest {k : Nat} {u : SX} {v : SY} (I : i_Rel k u v) (hk : k + 4 ≤ 2048) (v1 : Int32) (v2 : Int32) (v3 : Int32) : wpX_shortest (fun r u' => wpY_shortest (fun r' v' => r' = r ∧ i_Rel (k + 4) u' v') v v1 v2 v3) u v1 v2 v3 := by
  refine mq_el (P := fun u v => wpX_shortest (fun r u' => wpY_shortest (fun r' v' => r' = r ∧ i_Rel (k + 4) u' v') v v1 v2 v3) u v1 v2 v3) ?_ I
  intro xpr xkn xsw xsl xsc n cn ef th tk dm st li wc pl kw sa pcs pc ykn ymd yop yst yps ybs yc yag ypl ybe w B hk n8 hl
  have bad : ((v1 < 0 ∨ nI 4 ≤ v1) ∨ (v2 < 0 ∨ nI 32 ≤ v2) ∨ (v3 < 0 ∨ nI 32 ≤ v3)) → wpX_shortest (fun r u' => wpY_shortest (fun r' v' => r' = r ∧ i_Rel (k + 4) u' v') (nI n, ykn, ymd, yop, yst, yps, ybs, cn, ef, th, tk, dm, st, li, yc, yag, ypl, ybe) v1 v2 v3) (xpr, nI n, xkn, xsw, xsl, xsc, cn, ef, tk, dm, (mq_fs st), (mq_ss st), li, wc, pl, pc, kw, sa, pcs) v1 v2 v3 := fun h => xk_shortest_b h (yk_shortest_b h ⟨rfl, mq_mk ⟨w, B, hk, n8, hl⟩⟩)
  rcases mq_ix v1 (n := 4) (by decide) with h | ⟨t, ht, rfl⟩
  · exact bad (Or.inl h)
  rcases mq_ix v2 (n := 32) (by decide) with h | ⟨s, hs, rfl⟩
  · exact bad (Or.inr (Or.inl h))
  rcases mq_ix v3 (n := 32) (by decide) with h | ⟨e, he, rfl⟩
  · exact bad (Or.inr (Or.inr h))
  exact xk_shortest w B hk ht hs he (fun z _ _ _ _ _ _ _ T => yk_shortest w ht hs he (fun r S _ _ _ _ _ _ _ _ _ _ => ⟨mq_sh_uniq S (Or.inl ⟨z, rfl⟩), mq_mk ⟨w, B, Or.inr T, n8, hl⟩⟩)) (fun a b bs _ _ _ _ _ _ _ T => yk_shortest w ht hs he (fun r S _ _ _ _ _ _ _ _ _ _ => ⟨mq_sh_uniq S (Or.inr ⟨a, b, bs, rfl⟩), mq_mk ⟨w, B, Or.inr T, n8, hl⟩⟩))
theorem i_vc_planned {k : Nat} {u : SX} {v : SY} (I : i_Rel k u v) (hk : k + 4 ≤ 2048) (v1 : Int32) (v2 : Int32) (v3 : Int32) : wpX_planned (fun r u' => wpY_planned (fun r' v' => r' = r ∧ i_Rel (k + 4) u' v') v v1 v2 v3) u v1 v2 v3 := by
  refine mq_el (P := fun u v => wpX_planned (fun r u' => wpY_planned (fun r' v' => r' = r ∧ i_Rel (k + 4) u' v') v v1 v2 v3) u v1 v2 v3) ?_ I
  intro xpr xkn xsw xsl xsc n cn ef th tk dm st li wc pl kw sa pcs pc ykn ymd yop yst yps ybs yc yag ypl ybe w B hk n8 hl
  have bad : ((v1 < 0 ∨ nI 128 ≤ v1) ∨ (v2 < 0 ∨ nI 32 ≤ v2)) → wpX_planned (fun r u' => wpY_planned (fun r' v' => r' = r ∧ i_Rel (k + 4) u' v') (nI n, ykn, ymd, yop, yst, yps, ybs, cn, ef, th, tk, dm, st, li, yc, yag, ypl, ybe) v1 v2 v3) (xpr, nI n, xkn, xsw, xsl, xsc, cn, ef, tk, dm, (mq_fs st), (mq_ss st), li, wc, pl, pc, kw, sa, pcs) v1 v2 v3 := fun h => xk_planned_b h (yk_planned_b h ⟨rfl, mq_mk ⟨w, B, hk, n8, hl⟩⟩)
  rcases mq_ix v1 (n := 128) (by decide) with h | ⟨q, hq, rfl⟩
  · exact bad (Or.inl h)
  rcases mq_ix v2 (n := 32) (by decide) with h | ⟨s, hs, rfl⟩
  · exact bad (Or.inr h)
  refine xk_planned w B hk hq rfl rfl hs (fun z _ _ _ _ _ _ _ T => yk_planned w hq rfl rfl hs (fun r S _ _ _ _ _ _ _ _ _ _ => ⟨mq_pd_uniq S (Or.inl ⟨rfl, z⟩), mq_mk ⟨w, B, Or.inr T, n8, hl⟩⟩)) (fun a b i bs e l _ _ _ _ _ _ _ T => yk_planned w hq rfl rfl hs (fun r S _ _ _ _ _ _ _ _ _ _ => ⟨mq_pd_uniq S (Or.inr ⟨a, b, i, bs, e, l, ?_, rfl⟩), mq_mk ⟨w, B, Or.inr T, n8, hl⟩⟩))
  exact (mp_bs_bd (mq_E_wb w (by omega) (by omega) hs _) bs).1
theorem i_vc_write {k : Nat} {u : SX} {v : SY} (I : i_Rel k u v) (hk : k + 4 ≤ 2048) (v1 : Int32) : wpX_write (fun r u' => wpY_write (fun r' v' => r' = r ∧ i_Rel (k + 4) u' v') v v1) u v1 := by
  refine mq_el (P := fun u v => wpX_write (fun r u' => wpY_write (fun r' v' => r' = r ∧ i_Rel (k + 4) u' v') v v1) u v1) ?_ I
  intro xpr xkn xsw xsl xsc n cn ef th tk dm st li wc pl kw sa pcs pc ykn ymd yop yst yps ybs yc yag ypl ybe w B hk n8 hl
  have mk : i_Rel (k + 4) (xpr, nI n, xkn, xsw, xsl, xsc, cn, ef, tk, dm, (mq_fs st), (mq_ss st), li, wc, pl, pc, kw, sa, pcs) (nI n, ykn, ymd, yop, yst, yps, ybs, cn, ef, th, tk, dm, st, li, yc, yag, ypl, ybe) := mq_mk ⟨w, B, hk, n8, hl⟩
  rcases mq_ix v1 (n := 6) (by decide) with h1 | ⟨a, ha, rfl⟩
  · have n6 : ¬ v1 < 0 → ¬ v1 < 6 := by
      intro z q
      have := mq_not h1 z
      rw [Int32.le_iff_toInt_le, nI_toInt (by decide)] at this
      rw [Int32.lt_iff_toInt_lt, show (6 : Int32).toInt = 6 from by decide] at q
      omega
    have n5 : ¬ v1 < 0 → ¬ v1 ≤ 5 := by
      intro z q
      have := mq_not h1 z
      rw [Int32.le_iff_toInt_le, nI_toInt (by decide)] at this
      rw [Int32.le_iff_toInt_le, show (5 : Int32).toInt = 5 from by decide] at q
      omega
    have Y : wpY_write (fun r' v' => r' = -1 ∧ i_Rel (k + 4) (xpr, nI n, xkn, xsw, xsl, xsc, cn, ef, tk, dm, (mq_fs st), (mq_ss st), li, wc, pl, pc, kw, sa, pcs) v') (nI n, ykn, ymd, yop, yst, yps, ybs, cn, ef, th, tk, dm, st, li, yc, yag, ypl, ybe) v1 := br_c (fun _ => ⟨rfl, mk⟩) (fun z => br_f (n5 z) ⟨rfl, mk⟩)
    exact br_c (fun _ => Y) (fun z => br_f (n6 z) Y)
  · have hp : ¬ nI a < 0 := nI_pos (by omega)
    have h6 : nI a < 6 := nI_lt (b := 6) ha (by decide)
    have h5 : nI a ≤ 5 := nI_le (b := 5) (by omega) (by decide)
    refine br_f hp (br_t h6 (pk_lt n 8 (fun h => ?_) (fun h => ?_)))
    · have iv : vp_in (nI n) 8 := vp_in_nI h (by decide)
      have en : (nI n).toNatClampNeg = n := nI_clamp (by omega)
      refine And.intro iv (nm_r (e' := upd li n (nI a)) (by rw [en, mq_nb (by omega)]) (nm_r (nI_1 n) (br_f hp (br_t h5 (br_t (nI_lt (b := 8) h (by decide)) (And.intro iv (nm_r (e' := upd li n (nI a)) (by rw [en]) (nm_r (nI_1 n) ⟨rfl, mq_mk ⟨w, B, hk, by omega, fun i hi => ?_⟩⟩))))))))
      by_cases z : i = n
      · rw [z, pk_us]
        exact ⟨a, ha, rfl⟩
      · rw [pk_un z]
        exact hl i (by omega)
    · exact br_f hp (br_t h5 (br_f (nI_nlt (b := 8) h (by omega)) ⟨rfl, mk⟩))
theorem i_vc_rub {k : Nat} {u : SX} {v : SY} (I : i_Rel k u v) (hk : k + 4 ≤ 2048) : wpX_rub (fun r u' => wpY_rub (fun r' v' => r' = r ∧ i_Rel (k + 4) u' v') v) u := by
  refine mq_el (P := fun u v => wpX_rub (fun r u' => wpY_rub (fun r' v' => r' = r ∧ i_Rel (k + 4) u' v') v) u) ?_ I
  intro xpr xkn xsw xsl xsc n cn ef th tk dm st li wc pl kw sa pcs pc ykn ymd yop yst yps ybs yc yag ypl ybe w B hk n8 hl
  by_cases z : n = 0
  · subst z
    exact br_t rfl (br_t rfl ⟨rfl, mq_mk ⟨w, B, hk, n8, hl⟩⟩)
  · obtain ⟨m, rfl⟩ : ∃ m, n = m + 1 := ⟨n - 1, by omega⟩
    have iv : vp_in (nI m) 8 := vp_in_nI (by omega) (by decide)
    have nz : ¬ nI (m + 1) = 0 := nI_ne0 (by omega) (by omega)
    exact br_f nz (nm_r (nI_pred m) (And.intro iv (br_f nz (nm_r (nI_pred m) (And.intro iv ⟨rfl, mq_mk ⟨w, B, hk, by omega, fun i hi => hl i (by omega)⟩⟩)))))
theorem i_vc_accounts {k : Nat} {u : SX} {v : SY} (I : i_Rel k u v) (hk : k + 4 ≤ 2048) (v1 : Int32) (v2 : Int32) : wpX_accounts (fun r u' => wpY_accounts (fun r' v' => r' = r ∧ i_Rel (k + 4) u' v') v v1 v2) u v1 v2 := by
  refine mq_el (P := fun u v => wpX_accounts (fun r u' => wpY_accounts (fun r' v' => r' = r ∧ i_Rel (k + 4) u' v') v v1 v2) u v1 v2) ?_ I
  intro xpr xkn xsw xsl xsc n cn ef th tk dm st li wc pl kw sa pcs pc ykn ymd yop yst yps ybs yc yag ypl ybe w B hk n8 hl
  have bad : ((v1 < 0 ∨ nI 4 ≤ v1) ∨ (v2 < 0 ∨ nI 32 ≤ v2)) → wpX_accounts (fun r u' => wpY_accounts (fun r' v' => r' = r ∧ i_Rel (k + 4) u' v') (nI n, ykn, ymd, yop, yst, yps, ybs, cn, ef, th, tk, dm, st, li, yc, yag, ypl, ybe) v1 v2) (xpr, nI n, xkn, xsw, xsl, xsc, cn, ef, tk, dm, (mq_fs st), (mq_ss st), li, wc, pl, pc, kw, sa, pcs) v1 v2 := fun h => xk_accounts_b h (yk_accounts_b h ⟨rfl, mq_mk ⟨w, B, hk, n8, hl⟩⟩)
  rcases mq_ix v1 (n := 4) (by decide) with h | ⟨t, ht, rfl⟩
  · exact bad (Or.inl h)
  rcases mq_ix v2 (n := 32) (by decide) with h | ⟨s, hs, rfl⟩
  · exact bad (Or.inr h)
  exact xk_accounts w B n8 hl ht hs (fun c _ _ => yk_accounts w ht hs n8 hl (fun _ _ _ _ _ _ _ _ _ => ⟨rfl, mq_mk ⟨w, B, hk, n8, hl⟩⟩) (fun c' => absurd c c')) (fun c _ _ => yk_accounts w ht hs n8 hl (fun c' => absurd c' c) (fun _ _ _ _ _ _ _ _ _ => ⟨rfl, mq_mk ⟨w, B, hk, n8, hl⟩⟩))
theorem i_vc_after {k : Nat} {u : SX} {v : SY} (I : i_Rel k u v) (hk : k + 4 ≤ 2048) (v1 : Int32) : wpX_after (fun r u' => wpY_after (fun r' => r' = r ∧ i_Rel (k + 4) u' v) v v1) u v1 := by
  refine mq_el (P := fun u v => wpX_after (fun r u' => wpY_after (fun r' => r' = r ∧ i_Rel (k + 4) u' v) v v1) u v1) ?_ I
  intro xpr xkn xsw xsl xsc n cn ef th tk dm st li wc pl kw sa pcs pc ykn ymd yop yst yps ybs yc yag ypl ybe w B hk n8 hl
  rcases mq_ix v1 (n := 32) (by decide) with h | ⟨s, hs, rfl⟩
  · exact xk_after_b h (yk_after_b h ⟨rfl, mq_mk ⟨w, B, hk, n8, hl⟩⟩)
  · have Y : ∀ (r : Int32) (u' : SX), (∀ e, mp_ex (mq_hc cn) (mq_ch ef) (mp_sl (mq_l li) 0 n) s = some e → nI e = r ∧ i_Rel (k + 4) u' (nI n, ykn, ymd, yop, yst, yps, ybs, cn, ef, th, tk, dm, st, li, yc, yag, ypl, ybe)) → (mp_ex (mq_hc cn) (mq_ch ef) (mp_sl (mq_l li) 0 n) s = none → -1 = r ∧ i_Rel (k + 4) u' (nI n, ykn, ymd, yop, yst, yps, ybs, cn, ef, th, tk, dm, st, li, yc, yag, ypl, ybe)) → wpY_after (fun r' => r' = r ∧ i_Rel (k + 4) u' (nI n, ykn, ymd, yop, yst, yps, ybs, cn, ef, th, tk, dm, st, li, yc, yag, ypl, ybe)) (nI n, ykn, ymd, yop, yst, yps, ybs, cn, ef, th, tk, dm, st, li, yc, yag, ypl, ybe) (nI s) := by
      intro r u' K1 K0
      unfold wpY_after
      exact yk_state1 hs (br_f (by decide) ⟨9, yk_aft0 n8 hl n 0 9 s (by omega) (by omega) hs K1 K0⟩)
    refine xk_after n8 hl hs (fun e q _ => Y _ _ (fun e' q' => ?_) (fun q' => ?_)) (fun q _ => Y _ _ (fun e' q' => ?_) (fun q' => ⟨rfl, mq_mk ⟨w, B, hk, n8, hl⟩⟩))
    · rw [q] at q'
      cases q'
      exact ⟨rfl, mq_mk ⟨w, B, hk, n8, hl⟩⟩
    · rw [q] at q'
      exact nomatch q'
    · rw [q] at q'
      exact nomatch q'
theorem i_vc_doable {k : Nat} {u : SX} {v : SY} (I : i_Rel k u v) (hk : k + 4 ≤ 2048) (v1 : Int32) : wpX_doable (fun r u' => wpY_doable (fun r' v' => r' = r ∧ i_Rel (k + 4) u' v') v v1) u v1 := by
  refine mq_el (P := fun u v => wpX_doable (fun r u' => wpY_doable (fun r' v' => r' = r ∧ i_Rel (k + 4) u' v') v v1) u v1) ?_ I
  intro xpr xkn xsw xsl xsc n cn ef th tk dm st li wc pl kw sa pcs pc ykn ymd yop yst yps ybs yc yag ypl ybe w B hk n8 hl
  rcases mq_ix v1 (n := 32) (by decide) with h | ⟨s, hs, rfl⟩
  · exact xk_doable_b h (yk_doable_b h ⟨rfl, mq_mk ⟨w, B, hk, n8, hl⟩⟩)
  · exact xk_doable w B hk hs (fun _ _ _ _ _ _ _ T => ⟨5, yk_do0 w hs (fun _ _ _ _ _ _ _ _ => ⟨rfl, mq_mk ⟨w, B, T, n8, hl⟩⟩) 4 0 5 _ _ _ _ _ _ _ _ (by omega) (by omega)⟩)
theorem i_vc_useless {k : Nat} {u : SX} {v : SY} (I : i_Rel k u v) (hk : k + 4 ≤ 2048) (v1 : Int32) : wpX_useless (fun r u' => wpY_useless (fun r' v' => r' = r ∧ i_Rel (k + 4) u' v') v v1) u v1 := by
  refine mq_el (P := fun u v => wpX_useless (fun r u' => wpY_useless (fun r' v' => r' = r ∧ i_Rel (k + 4) u' v') v v1) u v1) ?_ I
  intro xpr xkn xsw xsl xsc n cn ef th tk dm st li wc pl kw sa pcs pc ykn ymd yop yst yps ybs yc yag ypl ybe w B hk n8 hl
  have keep : (0 : Int32) = 0 ∧ i_Rel (k + 4) (xpr, nI n, xkn, xsw, xsl, xsc, cn, ef, tk, dm, (mq_fs st), (mq_ss st), li, wc, pl, pc, kw, sa, pcs) (nI n, ykn, ymd, yop, yst, yps, ybs, cn, ef, th, tk, dm, st, li, yc, yag, ypl, ybe) := ⟨rfl, mq_mk ⟨w, B, hk, n8, hl⟩⟩
  rcases mq_ix v1 (n := 8) (by decide) with h1 | ⟨m, hm, rfl⟩
  · unfold wpX_useless
    exact xk_has_b h1 (br_t rfl (br_c (fun _ => keep) (fun z => br_t (mq_lt_of_le 7 (by decide) (mq_not h1 z)) keep)))
  · have iv : vp_in (nI m) 8 := vp_in_nI hm (by decide)
    have em : (nI m).toNatClampNeg = m := nI_clamp (by omega)
    rcases mq_B_01 B hm with o | o
    · unfold wpX_useless
      refine xk_has B hm (fun z => absurd o z) (fun _ => br_t rfl (br_f (nI_pos (by omega)) (br_f (nI_nlt (a := 7) (b := m) (by omega) (by decide)) (And.intro iv ?_))))
      rw [em]
      exact br_t o keep
    · exact xk_useless w B hk hm (by rw [o]; decide) (fun U _ _ _ _ _ _ _ => yk_useless w hm o (fun _ _ _ _ _ _ _ _ _ => ⟨rfl, mq_mk ⟨w, B, Or.inl rfl, n8, hl⟩⟩) (fun N => absurd U N)) (fun N _ _ _ _ _ _ _ => yk_useless w hm o (fun U => absurd U N) (fun _ _ _ _ _ _ _ _ _ => ⟨rfl, mq_mk ⟨w, B, Or.inl rfl, n8, hl⟩⟩))
end
