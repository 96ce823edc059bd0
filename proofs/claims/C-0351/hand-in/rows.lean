section
/-! pure rows to paste: stores, nI and lN arithmetic, masks, shifts, narrowing, branches by naturals (pk_le, pk_lt, pk_eq), loops (lp1 .. lp16: the measure of the state; rp1 ..: recursion), negatives. Take what you need -/
theorem pk_us {f : Nat → Int32} {k : Nat} {x : Int32} : upd f k x k = x := if_pos rfl
theorem pk_un {f : Nat → Int32} {k j : Nat} {x : Int32} (h : j ≠ k) : upd f k x j = f j := if_neg h
theorem pk_uLs {f : Nat → Int64} {k : Nat} {x : Int64} : vp_updL f k x k = x := if_pos rfl
theorem pk_uLn {f : Nat → Int64} {k j : Nat} {x : Int64} (h : j ≠ k) : vp_updL f k x j = f j := if_neg h
theorem pk_sub {a b : Nat} (h : b ≤ a) : nI a - nI b = nI (a - b) := by
  obtain ⟨c, rfl⟩ : ∃ c, a = c + b := ⟨a - b, by omega⟩
  rw [← nI_add, Int32.add_sub_cancel, Nat.add_sub_cancel]
theorem pk_m1 (n : Nat) : nI (n + 1) + (-1) = nI n := by
  rw [← nI_1, Int32.add_assoc, show (1 : Int32) + (-1) = 0 from rfl, Int32.add_zero]
theorem pk_mul (a b : Nat) : nI a * nI b = nI (a * b) := (Int32.ofNat_mul a b).symm
theorem pk_div {a d : Nat} (ha : a < 2 ^ 31) (h0 : 0 < d) (hd : d < 2 ^ 31) : nI a / nI d = nI (a / d) := by
  apply Int32.toInt_inj.mp
  rw [lg_idiv_nonneg (by rw [nI_toInt ha]; omega) (by rw [nI_toInt hd]; omega), nI_toInt ha, nI_toInt hd, nI_toInt (Nat.lt_of_le_of_lt (Nat.div_le_self a d) ha)]
  first | rfl | exact (Int.natCast_ediv _ _).symm
theorem pk_rem {a d : Nat} (ha : a < 2 ^ 31) (h0 : 0 < d) (hd : d < 2 ^ 31) : nI a - nI a / nI d * nI d = nI (a % d) := by
  rw [pk_div ha h0 hd, pk_mul, pk_sub (Nat.div_mul_le_self a d)]
  exact congrArg nI (by have := Nat.div_add_mod' a d; omega)
theorem pk_sub_toInt {a b : Nat} (ha : a < 2 ^ 30) (hb : b < 2 ^ 30) : (nI a - nI b).toInt = (a : Int) - b := by
  rw [Int32.toInt_sub, nI_toInt (by omega), nI_toInt (by omega)]
  exact Int.bmod_eq_of_le (by omega) (by omega)
theorem pk_sneg {a b : Nat} (hb : b < 2 ^ 30) (h : a < b) : nI a - nI b < 0 := by
  rw [Int32.lt_iff_toInt_lt, pk_sub_toInt (by omega) hb, show (0 : Int32).toInt = 0 from by decide]
  omega
theorem pk_ix (x : Int32) {n : Nat} (hn : n < 2 ^ 31) : x < 0 ∨ nI n ≤ x ∨ ∃ j : Nat, j < n ∧ x = nI j := by
  by_cases h : x < 0
  · exact Or.inl h
  · obtain ⟨j, hj, rfl⟩ := nI_of h
    by_cases h2 : j < n
    · exact Or.inr (Or.inr ⟨j, h2, rfl⟩)
    · exact Or.inr (Or.inl (nI_le (by omega) hj))
theorem pk_le {x y : Int32} {A B : Prop} (a b : Nat) (f : a ≤ b → A) (g : b < a → B) (hx : x = nI a := by rfl) (hy : y = nI b := by rfl) (ha : a < 2 ^ 31 := by omega) (hb : b < 2 ^ 31 := by omega) : (x ≤ y → A) ∧ (¬ x ≤ y → B) := by
  subst hx hy
  rw [nI_leI ha hb]
  exact ⟨f, fun z => g (by omega)⟩
theorem pk_lt {x y : Int32} {A B : Prop} (a b : Nat) (f : a < b → A) (g : b ≤ a → B) (hx : x = nI a := by rfl) (hy : y = nI b := by rfl) (ha : a < 2 ^ 31 := by omega) (hb : b < 2 ^ 31 := by omega) : (x < y → A) ∧ (¬ x < y → B) := by
  subst hx hy
  rw [nI_ltI ha hb]
  exact ⟨f, fun z => g (by omega)⟩
theorem pk_eq {x y : Int32} {A B : Prop} (a b : Nat) (f : a = b → A) (g : a ≠ b → B) (hx : x = nI a := by rfl) (hy : y = nI b := by rfl) (ha : a < 2 ^ 31 := by omega) (hb : b < 2 ^ 31 := by omega) : (x = y → A) ∧ (¬ x = y → B) := by
  subst hx hy
  rw [nI_eq ha hb]
  exact ⟨f, g⟩
theorem pk_in {x : Int32} (n N : Nat) (h : n < N) (hx : x = nI n := by rfl) (hN : N < 2 ^ 31 := by omega) : vp_in x N := by
  subst hx
  exact vp_in_nI h hN
theorem pk_cl {x : Int32} (n : Nat) (hx : x = nI n := by rfl) (h : n < 2 ^ 31 := by omega) : x.toNatClampNeg = n := by
  subst hx
  exact nI_clamp h
theorem pk_tn {n : Nat} (h : n < 2 ^ 32) : (nI n).toBitVec.toNat = n := Nat.mod_eq_of_lt h
theorem pk_and (x : Int32) {m : Int32} (k : Nat) (hm : m.toBitVec.toNat = 2 ^ k - 1) : x &&& m = nI (x.toBitVec.toNat % 2 ^ k) := by
  apply Int32.toBitVec_inj.mp
  apply BitVec.eq_of_toNat_eq
  rw [Int32.toBitVec_and, BitVec.toNat_and, hm, Nat.and_two_pow_sub_one_eq_mod]
  show _ = (BitVec.ofNat 32 _).toNat
  rw [BitVec.toNat_ofNat]
  exact (Nat.mod_eq_of_lt (Nat.lt_of_le_of_lt (Nat.mod_le _ _) x.toBitVec.isLt)).symm
theorem pk_andN {n : Nat} (h : n < 2 ^ 32) {m : Int32} (k : Nat) (hm : m.toBitVec.toNat = 2 ^ k - 1) : nI n &&& m = nI (n % 2 ^ k) := by
  rw [pk_and _ k hm, pk_tn h]
theorem pk_andE (x : Int32) {m : Int32} (k : Nat) (hm : m.toBitVec.toNat = 2 ^ k - 1) : ∃ j : Nat, j < 2 ^ k ∧ x &&& m = nI j := ⟨_, Nat.mod_lt _ (Nat.two_pow_pos k), pk_and x k hm⟩
theorem pk_andIn (x : Int32) {m : Int32} (k : Nat) (hm : m.toBitVec.toNat = 2 ^ k - 1) (hk : k ≤ 30) : vp_in (x &&& m) (2 ^ k) := by
  obtain ⟨j, hj, e⟩ := pk_andE x k hm
  rw [e]
  exact vp_in_nI hj (Nat.lt_of_le_of_lt (Nat.pow_le_pow_right (by decide) hk) (by decide))
theorem pk_shl (a s : Int32) (k : Nat) (hs : (s.toBitVec.smod 32).toNat = k) : (a <<< s).toBitVec.toNat = a.toBitVec.toNat * 2 ^ k % 2 ^ 32 := by
  show (a.toBitVec <<< (s.toBitVec.smod 32).toNat).toNat = _
  rw [hs, BitVec.toNat_shiftLeft, Nat.shiftLeft_eq]
theorem pk_shlN {n : Nat} (s : Int32) (k : Nat) (hs : (s.toBitVec.smod 32).toNat = k) (h : n * 2 ^ k < 2 ^ 32) : nI n <<< s = nI (n * 2 ^ k) := by
  apply Int32.toBitVec_inj.mp
  apply BitVec.eq_of_toNat_eq
  have hn : n < 2 ^ 32 := Nat.lt_of_le_of_lt (Nat.le_mul_of_pos_right n (Nat.two_pow_pos k)) h
  rw [pk_shl _ _ k hs, pk_tn hn, pk_tn h, Nat.mod_eq_of_lt h]
theorem pk_shr (a s : Int32) (k : Nat) (hs : (s.toBitVec.smod 32).toNat = k) : (a >>> s).toInt = a.toInt >>> k := by
  show (a.toBitVec.sshiftRight (s.toBitVec.smod 32).toNat).toInt = _
  rw [hs, BitVec.toInt_sshiftRight]
  rfl
theorem pk_shrN {n : Nat} (h : n < 2 ^ 31) (s : Int32) (k : Nat) (hs : (s.toBitVec.smod 32).toNat = k) : nI n >>> s = nI (n / 2 ^ k) := by
  apply Int32.toInt_inj.mp
  have h2 : n / 2 ^ k ≤ n := Nat.div_le_self _ _
  rw [pk_shr _ _ k hs, nI_toInt h, nI_toInt (by omega), Int.shiftRight_eq_div_pow]
  rfl
theorem pk_ushr (x s : Int32) (k : Nat) (hs : ((s.toUInt32 &&& Int32.toUInt32 31).toBitVec % 32).toNat = k) : (x.toUInt32 >>> (s.toUInt32 &&& Int32.toUInt32 31)).toInt32.toBitVec.toNat = x.toBitVec.toNat / 2 ^ k := by
  have e : (x.toUInt32 >>> (s.toUInt32 &&& Int32.toUInt32 31)).toInt32.toBitVec = x.toBitVec >>> k := by
    rw [← hs]
    exact UInt32.toBitVec_shiftRight _ _
  rw [e, BitVec.toNat_ushiftRight, Nat.shiftRight_eq_div_pow]
theorem pk_ushrN {n : Nat} (hn : n < 2 ^ 32) (s : Int32) (k : Nat) (hs : ((s.toUInt32 &&& Int32.toUInt32 31).toBitVec % 32).toNat = k) : ((nI n).toUInt32 >>> (s.toUInt32 &&& Int32.toUInt32 31)).toInt32 = nI (n / 2 ^ k) := by
  apply Int32.toBitVec_inj.mp
  apply BitVec.eq_of_toNat_eq
  rw [pk_ushr _ s k hs, pk_tn hn, pk_tn (Nat.lt_of_le_of_lt (Nat.div_le_self _ _) hn)]
theorem pk_nb (z : Int32) : narrow .byte (.int z.toInt8.toInt32) = .int z.toInt8.toInt32 := congrArg Value.int (by simp)
theorem pk_ns (z : Int32) : narrow .short (.int z.toInt16.toInt32) = .int z.toInt16.toInt32 := congrArg Value.int (by simp)
theorem pk_fb (r : Int32) : fits .byte (.int r.toInt8.toInt32) = true := by
  have ⟨a, b⟩ := lg_i2b_range r
  have h1 : (-128 : Int32).toInt = -128 := by decide
  have h2 : (127 : Int32).toInt = 127 := by decide
  simp only [fits, Bool.and_eq_true, decide_eq_true_eq, Int32.le_iff_toInt_le, h1, h2]
  omega
theorem pk_fs (r : Int32) : fits .short (.int r.toInt16.toInt32) = true := by
  have ⟨a, b⟩ := lg_i2s_range r
  have h1 : (-32768 : Int32).toInt = -32768 := by decide
  have h2 : (32767 : Int32).toInt = 32767 := by decide
  simp only [fits, Bool.and_eq_true, decide_eq_true_eq, Int32.le_iff_toInt_le, h1, h2]
  omega
theorem pk_charN {q : Nat} (hq : q < 65536) : narrow .char (.int (nI q)) = .int (nI q) ∧ fits .char (.int (nI q)) = true := by
  constructor
  · have e : (nI q).toUInt32.toUInt16.toUInt32.toInt32 = nI q := by
      apply Int32.toBitVec_inj.mp
      apply BitVec.eq_of_toNat_eq
      show (nI q).toUInt32.toUInt16.toUInt32.toNat = q % 2 ^ 32
      rw [UInt16.toNat_toUInt32, UInt32.toNat_toUInt16, show (nI q).toUInt32.toNat = q % 2 ^ 32 from rfl]
      omega
    exact congrArg Value.int e
  · have a : (0 : Int32) ≤ nI q := nI_pos' (by omega)
    have b : nI q ≤ 65535 := nI_le (b := 65535) (by omega) (by decide)
    show (decide ((0 : Int32) ≤ nI q) && decide (nI q ≤ 65535)) = true
    rw [decide_eq_true a, decide_eq_true b]
    rfl
theorem pk_char (x : Int32) : (x.toUInt32 % 65536).toInt32 = nI (x.toBitVec.toNat % 65536) := by
  apply Int32.toBitVec_inj.mp
  apply BitVec.eq_of_toNat_eq
  rw [pk_tn (by omega)]
  show (x.toUInt32 % 65536).toNat = _
  rw [UInt32.toNat_mod]
  rfl
theorem pk_nc (x : Int32) : narrow .char (.int (x.toUInt32 % 65536).toInt32) = .int (x.toUInt32 % 65536).toInt32 := by
  rw [pk_char]
  exact (pk_charN (Nat.mod_lt _ (by decide))).1
theorem pk_fc (x : Int32) : fits .char (.int (x.toUInt32 % 65536).toInt32) = true := by
  rw [pk_char]
  exact (pk_charN (Nat.mod_lt _ (by decide))).2
theorem pk_vb (z : Int32) : vp_nar .byte z.toInt8.toInt32 = z.toInt8.toInt32 := by rw [vp_nar_byte]; simp
theorem pk_vs (z : Int32) : vp_nar .short z.toInt16.toInt32 = z.toInt16.toInt32 := by rw [vp_nar_short]; simp
theorem pk_vc (z : Int32) : vp_nar .char (z.toUInt32 % 65536).toInt32 = (z.toUInt32 % 65536).toInt32 := Value.int.inj (pk_nc z)
theorem pk_lT {n : Nat} (h : n < 2 ^ 63) : (lN n).toInt = (n : Int) := lg_ofNat_toInt h
theorem pk_lLT {a b : Nat} (ha : a < 2 ^ 63) (hb : b < 2 ^ 63) : lN a < lN b ↔ a < b := by
  rw [Int64.lt_iff_toInt_lt, pk_lT ha, pk_lT hb]; omega
theorem pk_lLE {a b : Nat} (ha : a < 2 ^ 63) (hb : b < 2 ^ 63) : lN a ≤ lN b ↔ a ≤ b := by
  rw [Int64.le_iff_toInt_le, pk_lT ha, pk_lT hb]; omega
theorem pk_lEQ {a b : Nat} (ha : a < 2 ^ 63) (hb : b < 2 ^ 63) : lN a = lN b ↔ a = b := by
  rw [← Int64.toInt_inj, pk_lT ha, pk_lT hb]; omega
theorem pk_lOf {x : Int64} (h : ¬ x < 0) : ∃ k : Nat, k < 2 ^ 63 ∧ x = lN k := by
  rw [Int64.lt_iff_toInt_lt] at h
  have h0 : (0 : Int64).toInt = 0 := by decide
  have hx := Int64.toInt_lt x
  refine ⟨x.toInt.toNat, by omega, Int64.toInt_inj.mp ?_⟩
  rw [pk_lT (by omega)]
  omega
theorem pk_lDiv {a b : Nat} (ha : a < 2 ^ 63) (h0 : 0 < b) (hb : b < 2 ^ 63) : lN a / lN b = lN (a / b) := by
  apply Int64.toInt_inj.mp
  rw [lg_ldiv_nonneg (by rw [pk_lT ha]; omega) (by rw [pk_lT hb]; omega), pk_lT ha, pk_lT hb, pk_lT (Nat.lt_of_le_of_lt (Nat.div_le_self a b) ha)]
  rfl
theorem pk_lRem {a b : Nat} (ha : a < 2 ^ 63) (h0 : 0 < b) (hb : b < 2 ^ 63) : lN a - lN a / lN b * lN b = lN (a % b) := by
  rw [pk_lDiv ha h0 hb, lN_mul, lN_sub (Nat.div_mul_le_self a b)]
  exact congrArg lN (by have := Nat.div_add_mod' a b; omega)
theorem pk_loop {σ : Type} (W : Nat → Nat → σ → Prop) (I : Nat → σ → Prop) (e i0 : Nat) (s : σ) (hi : i0 ≤ e) (h0 : I i0 s) (hx : ∀ n s, I e s → W (n + 1) e s)
    (hs : ∀ n i s, i < e → I i s → (∀ s', I (i + 1) s' → W n (i + 1) s') → W (n + 1) i s) : ∃ n, W n i0 s :=
  ⟨e + 1, loop_i W I e hx hs (e + 1) i0 s hi (by omega) h0⟩
theorem pk_loopD {σ : Type} (W : Nat → Nat → σ → Prop) (I : Nat → σ → Prop) (hx : ∀ n s, I 0 s → W (n + 1) 0 s)
    (hs : ∀ n i s, I (i + 1) s → (∀ s', I i s' → W n i s') → W (n + 1) (i + 1) s) : ∀ (e : Nat) (s : σ), I e s → W (e + 1) e s := by
  intro e
  induction e with
  | zero => exact fun s h => hx 0 s h
  | succ e ih => exact fun s h => hs (e + 1) e s h (fun s' h' => ih s' h')
theorem lp1 {A1 : Type} (W : Nat → A1 → Prop) (I : A1 → Prop) (μ : A1 → Nat) (hs : ∀ (n : Nat) (a1 : A1), I a1 → (∀ (b1 : A1), I b1 → μ b1 < μ a1 → W n b1) → W (n + 1) a1) (a1 : A1) (h : I a1) : ∃ n, W n a1 :=
  loop_m (σ := A1) (fun n s => W n s) (fun s => I s) (fun s => μ s) (fun n s hI hk => hs n s hI (fun b1 h9 hm => hk b1 h9 hm)) a1 h
theorem lp2 {A1 A2 : Type} (W : Nat → A1 → A2 → Prop) (I : A1 → A2 → Prop) (μ : A1 → A2 → Nat) (hs : ∀ (n : Nat) (a1 : A1) (a2 : A2), I a1 a2 → (∀ (b1 : A1) (b2 : A2), I b1 b2 → μ b1 b2 < μ a1 a2 → W n b1 b2) → W (n + 1) a1 a2) (a1 : A1) (a2 : A2) (h : I a1 a2) : ∃ n, W n a1 a2 :=
  loop_m (σ := A1 × A2) (fun n s => W n s.1 s.2) (fun s => I s.1 s.2) (fun s => μ s.1 s.2) (fun n s hI hk => hs n s.1 s.2 hI (fun b1 b2 h9 hm => hk (b1, b2) h9 hm)) (a1, a2) h
theorem lp3 {A1 A2 A3 : Type} (W : Nat → A1 → A2 → A3 → Prop) (I : A1 → A2 → A3 → Prop) (μ : A1 → A2 → A3 → Nat) (hs : ∀ (n : Nat) (a1 : A1) (a2 : A2) (a3 : A3), I a1 a2 a3 → (∀ (b1 : A1) (b2 : A2) (b3 : A3), I b1 b2 b3 → μ b1 b2 b3 < μ a1 a2 a3 → W n b1 b2 b3) → W (n + 1) a1 a2 a3) (a1 : A1) (a2 : A2) (a3 : A3) (h : I a1 a2 a3) : ∃ n, W n a1 a2 a3 :=
  loop_m (σ := A1 × A2 × A3) (fun n s => W n s.1 s.2.1 s.2.2) (fun s => I s.1 s.2.1 s.2.2) (fun s => μ s.1 s.2.1 s.2.2) (fun n s hI hk => hs n s.1 s.2.1 s.2.2 hI (fun b1 b2 b3 h9 hm => hk (b1, b2, b3) h9 hm)) (a1, a2, a3) h
theorem lp4 {A1 A2 A3 A4 : Type} (W : Nat → A1 → A2 → A3 → A4 → Prop) (I : A1 → A2 → A3 → A4 → Prop) (μ : A1 → A2 → A3 → A4 → Nat) (hs : ∀ (n : Nat) (a1 : A1) (a2 : A2) (a3 : A3) (a4 : A4), I a1 a2 a3 a4 → (∀ (b1 : A1) (b2 : A2) (b3 : A3) (b4 : A4), I b1 b2 b3 b4 → μ b1 b2 b3 b4 < μ a1 a2 a3 a4 → W n b1 b2 b3 b4) → W (n + 1) a1 a2 a3 a4) (a1 : A1) (a2 : A2) (a3 : A3) (a4 : A4) (h : I a1 a2 a3 a4) : ∃ n, W n a1 a2 a3 a4 :=
  loop_m (σ := A1 × A2 × A3 × A4) (fun n s => W n s.1 s.2.1 s.2.2.1 s.2.2.2) (fun s => I s.1 s.2.1 s.2.2.1 s.2.2.2) (fun s => μ s.1 s.2.1 s.2.2.1 s.2.2.2) (fun n s hI hk => hs n s.1 s.2.1 s.2.2.1 s.2.2.2 hI (fun b1 b2 b3 b4 h9 hm => hk (b1, b2, b3, b4) h9 hm)) (a1, a2, a3, a4) h
theorem lp5 {A1 A2 A3 A4 A5 : Type} (W : Nat → A1 → A2 → A3 → A4 → A5 → Prop) (I : A1 → A2 → A3 → A4 → A5 → Prop) (μ : A1 → A2 → A3 → A4 → A5 → Nat) (hs : ∀ (n : Nat) (a1 : A1) (a2 : A2) (a3 : A3) (a4 : A4) (a5 : A5), I a1 a2 a3 a4 a5 → (∀ (b1 : A1) (b2 : A2) (b3 : A3) (b4 : A4) (b5 : A5), I b1 b2 b3 b4 b5 → μ b1 b2 b3 b4 b5 < μ a1 a2 a3 a4 a5 → W n b1 b2 b3 b4 b5) → W (n + 1) a1 a2 a3 a4 a5) (a1 : A1) (a2 : A2) (a3 : A3) (a4 : A4) (a5 : A5) (h : I a1 a2 a3 a4 a5) : ∃ n, W n a1 a2 a3 a4 a5 :=
  loop_m (σ := A1 × A2 × A3 × A4 × A5) (fun n s => W n s.1 s.2.1 s.2.2.1 s.2.2.2.1 s.2.2.2.2) (fun s => I s.1 s.2.1 s.2.2.1 s.2.2.2.1 s.2.2.2.2) (fun s => μ s.1 s.2.1 s.2.2.1 s.2.2.2.1 s.2.2.2.2) (fun n s hI hk => hs n s.1 s.2.1 s.2.2.1 s.2.2.2.1 s.2.2.2.2 hI (fun b1 b2 b3 b4 b5 h9 hm => hk (b1, b2, b3, b4, b5) h9 hm)) (a1, a2, a3, a4, a5) h
theorem lp6 {A1 A2 A3 A4 A5 A6 : Type} (W : Nat → A1 → A2 → A3 → A4 → A5 → A6 → Prop) (I : A1 → A2 → A3 → A4 → A5 → A6 → Prop) (μ : A1 → A2 → A3 → A4 → A5 → A6 → Nat) (hs : ∀ (n : Nat) (a1 : A1) (a2 : A2) (a3 : A3) (a4 : A4) (a5 : A5) (a6 : A6), I a1 a2 a3 a4 a5 a6 → (∀ (b1 : A1) (b2 : A2) (b3 : A3) (b4 : A4) (b5 : A5) (b6 : A6), I b1 b2 b3 b4 b5 b6 → μ b1 b2 b3 b4 b5 b6 < μ a1 a2 a3 a4 a5 a6 → W n b1 b2 b3 b4 b5 b6) → W (n + 1) a1 a2 a3 a4 a5 a6) (a1 : A1) (a2 : A2) (a3 : A3) (a4 : A4) (a5 : A5) (a6 : A6) (h : I a1 a2 a3 a4 a5 a6) : ∃ n, W n a1 a2 a3 a4 a5 a6 :=
  loop_m (σ := A1 × A2 × A3 × A4 × A5 × A6) (fun n s => W n s.1 s.2.1 s.2.2.1 s.2.2.2.1 s.2.2.2.2.1 s.2.2.2.2.2) (fun s => I s.1 s.2.1 s.2.2.1 s.2.2.2.1 s.2.2.2.2.1 s.2.2.2.2.2) (fun s => μ s.1 s.2.1 s.2.2.1 s.2.2.2.1 s.2.2.2.2.1 s.2.2.2.2.2) (fun n s hI hk => hs n s.1 s.2.1 s.2.2.1 s.2.2.2.1 s.2.2.2.2.1 s.2.2.2.2.2 hI (fun b1 b2 b3 b4 b5 b6 h9 hm => hk (b1, b2, b3, b4, b5, b6) h9 hm)) (a1, a2, a3, a4, a5, a6) h
theorem lp7 {A1 A2 A3 A4 A5 A6 A7 : Type} (W : Nat → A1 → A2 → A3 → A4 → A5 → A6 → A7 → Prop) (I : A1 → A2 → A3 → A4 → A5 → A6 → A7 → Prop) (μ : A1 → A2 → A3 → A4 → A5 → A6 → A7 → Nat) (hs : ∀ (n : Nat) (a1 : A1) (a2 : A2) (a3 : A3) (a4 : A4) (a5 : A5) (a6 : A6) (a7 : A7), I a1 a2 a3 a4 a5 a6 a7 → (∀ (b1 : A1) (b2 : A2) (b3 : A3) (b4 : A4) (b5 : A5) (b6 : A6) (b7 : A7), I b1 b2 b3 b4 b5 b6 b7 → μ b1 b2 b3 b4 b5 b6 b7 < μ a1 a2 a3 a4 a5 a6 a7 → W n b1 b2 b3 b4 b5 b6 b7) → W (n + 1) a1 a2 a3 a4 a5 a6 a7) (a1 : A1) (a2 : A2) (a3 : A3) (a4 : A4) (a5 : A5) (a6 : A6) (a7 : A7) (h : I a1 a2 a3 a4 a5 a6 a7) : ∃ n, W n a1 a2 a3 a4 a5 a6 a7 :=
  loop_m (σ := A1 × A2 × A3 × A4 × A5 × A6 × A7) (fun n s => W n s.1 s.2.1 s.2.2.1 s.2.2.2.1 s.2.2.2.2.1 s.2.2.2.2.2.1 s.2.2.2.2.2.2) (fun s => I s.1 s.2.1 s.2.2.1 s.2.2.2.1 s.2.2.2.2.1 s.2.2.2.2.2.1 s.2.2.2.2.2.2) (fun s => μ s.1 s.2.1 s.2.2.1 s.2.2.2.1 s.2.2.2.2.1 s.2.2.2.2.2.1 s.2.2.2.2.2.2) (fun n s hI hk => hs n s.1 s.2.1 s.2.2.1 s.2.2.2.1 s.2.2.2.2.1 s.2.2.2.2.2.1 s.2.2.2.2.2.2 hI (fun b1 b2 b3 b4 b5 b6 b7 h9 hm => hk (b1, b2, b3, b4, b5, b6, b7) h9 hm)) (a1, a2, a3, a4, a5, a6, a7) h
theorem lp8 {A1 A2 A3 A4 A5 A6 A7 A8 : Type} (W : Nat → A1 → A2 → A3 → A4 → A5 → A6 → A7 → A8 → Prop) (I : A1 → A2 → A3 → A4 → A5 → A6 → A7 → A8 → Prop) (μ : A1 → A2 → A3 → A4 → A5 → A6 → A7 → A8 → Nat) (hs : ∀ (n : Nat) (a1 : A1) (a2 : A2) (a3 : A3) (a4 : A4) (a5 : A5) (a6 : A6) (a7 : A7) (a8 : A8), I a1 a2 a3 a4 a5 a6 a7 a8 → (∀ (b1 : A1) (b2 : A2) (b3 : A3) (b4 : A4) (b5 : A5) (b6 : A6) (b7 : A7) (b8 : A8), I b1 b2 b3 b4 b5 b6 b7 b8 → μ b1 b2 b3 b4 b5 b6 b7 b8 < μ a1 a2 a3 a4 a5 a6 a7 a8 → W n b1 b2 b3 b4 b5 b6 b7 b8) → W (n + 1) a1 a2 a3 a4 a5 a6 a7 a8) (a1 : A1) (a2 : A2) (a3 : A3) (a4 : A4) (a5 : A5) (a6 : A6) (a7 : A7) (a8 : A8) (h : I a1 a2 a3 a4 a5 a6 a7 a8) : ∃ n, W n a1 a2 a3 a4 a5 a6 a7 a8 :=
  loop_m (σ := A1 × A2 × A3 × A4 × A5 × A6 × A7 × A8) (fun n s => W n s.1 s.2.1 s.2.2.1 s.2.2.2.1 s.2.2.2.2.1 s.2.2.2.2.2.1 s.2.2.2.2.2.2.1 s.2.2.2.2.2.2.2) (fun s => I s.1 s.2.1 s.2.2.1 s.2.2.2.1 s.2.2.2.2.1 s.2.2.2.2.2.1 s.2.2.2.2.2.2.1 s.2.2.2.2.2.2.2) (fun s => μ s.1 s.2.1 s.2.2.1 s.2.2.2.1 s.2.2.2.2.1 s.2.2.2.2.2.1 s.2.2.2.2.2.2.1 s.2.2.2.2.2.2.2) (fun n s hI hk => hs n s.1 s.2.1 s.2.2.1 s.2.2.2.1 s.2.2.2.2.1 s.2.2.2.2.2.1 s.2.2.2.2.2.2.1 s.2.2.2.2.2.2.2 hI (fun b1 b2 b3 b4 b5 b6 b7 b8 h9 hm => hk (b1, b2, b3, b4, b5, b6, b7, b8) h9 hm)) (a1, a2, a3, a4, a5, a6, a7, a8) h
theorem lp9 {A1 A2 A3 A4 A5 A6 A7 A8 A9 : Type} (W : Nat → A1 → A2 → A3 → A4 → A5 → A6 → A7 → A8 → A9 → Prop) (I : A1 → A2 → A3 → A4 → A5 → A6 → A7 → A8 → A9 → Prop) (μ : A1 → A2 → A3 → A4 → A5 → A6 → A7 → A8 → A9 → Nat) (hs : ∀ (n : Nat) (a1 : A1) (a2 : A2) (a3 : A3) (a4 : A4) (a5 : A5) (a6 : A6) (a7 : A7) (a8 : A8) (a9 : A9), I a1 a2 a3 a4 a5 a6 a7 a8 a9 → (∀ (b1 : A1) (b2 : A2) (b3 : A3) (b4 : A4) (b5 : A5) (b6 : A6) (b7 : A7) (b8 : A8) (b9 : A9), I b1 b2 b3 b4 b5 b6 b7 b8 b9 → μ b1 b2 b3 b4 b5 b6 b7 b8 b9 < μ a1 a2 a3 a4 a5 a6 a7 a8 a9 → W n b1 b2 b3 b4 b5 b6 b7 b8 b9) → W (n + 1) a1 a2 a3 a4 a5 a6 a7 a8 a9) (a1 : A1) (a2 : A2) (a3 : A3) (a4 : A4) (a5 : A5) (a6 : A6) (a7 : A7) (a8 : A8) (a9 : A9) (h : I a1 a2 a3 a4 a5 a6 a7 a8 a9) : ∃ n, W n a1 a2 a3 a4 a5 a6 a7 a8 a9 :=
  loop_m (σ := A1 × A2 × A3 × A4 × A5 × A6 × A7 × A8 × A9) (fun n s => W n s.1 s.2.1 s.2.2.1 s.2.2.2.1 s.2.2.2.2.1 s.2.2.2.2.2.1 s.2.2.2.2.2.2.1 s.2.2.2.2.2.2.2.1 s.2.2.2.2.2.2.2.2) (fun s => I s.1 s.2.1 s.2.2.1 s.2.2.2.1 s.2.2.2.2.1 s.2.2.2.2.2.1 s.2.2.2.2.2.2.1 s.2.2.2.2.2.2.2.1 s.2.2.2.2.2.2.2.2) (fun s => μ s.1 s.2.1 s.2.2.1 s.2.2.2.1 s.2.2.2.2.1 s.2.2.2.2.2.1 s.2.2.2.2.2.2.1 s.2.2.2.2.2.2.2.1 s.2.2.2.2.2.2.2.2) (fun n s hI hk => hs n s.1 s.2.1 s.2.2.1 s.2.2.2.1 s.2.2.2.2.1 s.2.2.2.2.2.1 s.2.2.2.2.2.2.1 s.2.2.2.2.2.2.2.1 s.2.2.2.2.2.2.2.2 hI (fun b1 b2 b3 b4 b5 b6 b7 b8 b9 h9 hm => hk (b1, b2, b3, b4, b5, b6, b7, b8, b9) h9 hm)) (a1, a2, a3, a4, a5, a6, a7, a8, a9) h
theorem lp10 {A1 A2 A3 A4 A5 A6 A7 A8 A9 A10 : Type} (W : Nat → A1 → A2 → A3 → A4 → A5 → A6 → A7 → A8 → A9 → A10 → Prop) (I : A1 → A2 → A3 → A4 → A5 → A6 → A7 → A8 → A9 → A10 → Prop) (μ : A1 → A2 → A3 → A4 → A5 → A6 → A7 → A8 → A9 → A10 → Nat) (hs : ∀ (n : Nat) (a1 : A1) (a2 : A2) (a3 : A3) (a4 : A4) (a5 : A5) (a6 : A6) (a7 : A7) (a8 : A8) (a9 : A9) (a10 : A10), I a1 a2 a3 a4 a5 a6 a7 a8 a9 a10 → (∀ (b1 : A1) (b2 : A2) (b3 : A3) (b4 : A4) (b5 : A5) (b6 : A6) (b7 : A7) (b8 : A8) (b9 : A9) (b10 : A10), I b1 b2 b3 b4 b5 b6 b7 b8 b9 b10 → μ b1 b2 b3 b4 b5 b6 b7 b8 b9 b10 < μ a1 a2 a3 a4 a5 a6 a7 a8 a9 a10 → W n b1 b2 b3 b4 b5 b6 b7 b8 b9 b10) → W (n + 1) a1 a2 a3 a4 a5 a6 a7 a8 a9 a10) (a1 : A1) (a2 : A2) (a3 : A3) (a4 : A4) (a5 : A5) (a6 : A6) (a7 : A7) (a8 : A8) (a9 : A9) (a10 : A10) (h : I a1 a2 a3 a4 a5 a6 a7 a8 a9 a10) : ∃ n, W n a1 a2 a3 a4 a5 a6 a7 a8 a9 a10 :=
  loop_m (σ := A1 × A2 × A3 × A4 × A5 × A6 × A7 × A8 × A9 × A10) (fun n s => W n s.1 s.2.1 s.2.2.1 s.2.2.2.1 s.2.2.2.2.1 s.2.2.2.2.2.1 s.2.2.2.2.2.2.1 s.2.2.2.2.2.2.2.1 s.2.2.2.2.2.2.2.2.1 s.2.2.2.2.2.2.2.2.2) (fun s => I s.1 s.2.1 s.2.2.1 s.2.2.2.1 s.2.2.2.2.1 s.2.2.2.2.2.1 s.2.2.2.2.2.2.1 s.2.2.2.2.2.2.2.1 s.2.2.2.2.2.2.2.2.1 s.2.2.2.2.2.2.2.2.2) (fun s => μ s.1 s.2.1 s.2.2.1 s.2.2.2.1 s.2.2.2.2.1 s.2.2.2.2.2.1 s.2.2.2.2.2.2.1 s.2.2.2.2.2.2.2.1 s.2.2.2.2.2.2.2.2.1 s.2.2.2.2.2.2.2.2.2) (fun n s hI hk => hs n s.1 s.2.1 s.2.2.1 s.2.2.2.1 s.2.2.2.2.1 s.2.2.2.2.2.1 s.2.2.2.2.2.2.1 s.2.2.2.2.2.2.2.1 s.2.2.2.2.2.2.2.2.1 s.2.2.2.2.2.2.2.2.2 hI (fun b1 b2 b3 b4 b5 b6 b7 b8 b9 b10 h9 hm => hk (b1, b2, b3, b4, b5, b6, b7, b8, b9, b10) h9 hm)) (a1, a2, a3, a4, a5, a6, a7, a8, a9, a10) h
theorem lp11 {A1 A2 A3 A4 A5 A6 A7 A8 A9 A10 A11 : Type} (W : Nat → A1 → A2 → A3 → A4 → A5 → A6 → A7 → A8 → A9 → A10 → A11 → Prop) (I : A1 → A2 → A3 → A4 → A5 → A6 → A7 → A8 → A9 → A10 → A11 → Prop) (μ : A1 → A2 → A3 → A4 → A5 → A6 → A7 → A8 → A9 → A10 → A11 → Nat) (hs : ∀ (n : Nat) (a1 : A1) (a2 : A2) (a3 : A3) (a4 : A4) (a5 : A5) (a6 : A6) (a7 : A7) (a8 : A8) (a9 : A9) (a10 : A10) (a11 : A11), I a1 a2 a3 a4 a5 a6 a7 a8 a9 a10 a11 → (∀ (b1 : A1) (b2 : A2) (b3 : A3) (b4 : A4) (b5 : A5) (b6 : A6) (b7 : A7) (b8 : A8) (b9 : A9) (b10 : A10) (b11 : A11), I b1 b2 b3 b4 b5 b6 b7 b8 b9 b10 b11 → μ b1 b2 b3 b4 b5 b6 b7 b8 b9 b10 b11 < μ a1 a2 a3 a4 a5 a6 a7 a8 a9 a10 a11 → W n b1 b2 b3 b4 b5 b6 b7 b8 b9 b10 b11) → W (n + 1) a1 a2 a3 a4 a5 a6 a7 a8 a9 a10 a11) (a1 : A1) (a2 : A2) (a3 : A3) (a4 : A4) (a5 : A5) (a6 : A6) (a7 : A7) (a8 : A8) (a9 : A9) (a10 : A10) (a11 : A11) (h : I a1 a2 a3 a4 a5 a6 a7 a8 a9 a10 a11) : ∃ n, W n a1 a2 a3 a4 a5 a6 a7 a8 a9 a10 a11 :=
  loop_m (σ := A1 × A2 × A3 × A4 × A5 × A6 × A7 × A8 × A9 × A10 × A11) (fun n s => W n s.1 s.2.1 s.2.2.1 s.2.2.2.1 s.2.2.2.2.1 s.2.2.2.2.2.1 s.2.2.2.2.2.2.1 s.2.2.2.2.2.2.2.1 s.2.2.2.2.2.2.2.2.1 s.2.2.2.2.2.2.2.2.2.1 s.2.2.2.2.2.2.2.2.2.2) (fun s => I s.1 s.2.1 s.2.2.1 s.2.2.2.1 s.2.2.2.2.1 s.2.2.2.2.2.1 s.2.2.2.2.2.2.1 s.2.2.2.2.2.2.2.1 s.2.2.2.2.2.2.2.2.1 s.2.2.2.2.2.2.2.2.2.1 s.2.2.2.2.2.2.2.2.2.2) (fun s => μ s.1 s.2.1 s.2.2.1 s.2.2.2.1 s.2.2.2.2.1 s.2.2.2.2.2.1 s.2.2.2.2.2.2.1 s.2.2.2.2.2.2.2.1 s.2.2.2.2.2.2.2.2.1 s.2.2.2.2.2.2.2.2.2.1 s.2.2.2.2.2.2.2.2.2.2) (fun n s hI hk => hs n s.1 s.2.1 s.2.2.1 s.2.2.2.1 s.2.2.2.2.1 s.2.2.2.2.2.1 s.2.2.2.2.2.2.1 s.2.2.2.2.2.2.2.1 s.2.2.2.2.2.2.2.2.1 s.2.2.2.2.2.2.2.2.2.1 s.2.2.2.2.2.2.2.2.2.2 hI (fun b1 b2 b3 b4 b5 b6 b7 b8 b9 b10 b11 h9 hm => hk (b1, b2, b3, b4, b5, b6, b7, b8, b9, b10, b11) h9 hm)) (a1, a2, a3, a4, a5, a6, a7, a8, a9, a10, a11) h
theorem lp12 {A1 A2 A3 A4 A5 A6 A7 A8 A9 A10 A11 A12 : Type} (W : Nat → A1 → A2 → A3 → A4 → A5 → A6 → A7 → A8 → A9 → A10 → A11 → A12 → Prop) (I : A1 → A2 → A3 → A4 → A5 → A6 → A7 → A8 → A9 → A10 → A11 → A12 → Prop) (μ : A1 → A2 → A3 → A4 → A5 → A6 → A7 → A8 → A9 → A10 → A11 → A12 → Nat) (hs : ∀ (n : Nat) (a1 : A1) (a2 : A2) (a3 : A3) (a4 : A4) (a5 : A5) (a6 : A6) (a7 : A7) (a8 : A8) (a9 : A9) (a10 : A10) (a11 : A11) (a12 : A12), I a1 a2 a3 a4 a5 a6 a7 a8 a9 a10 a11 a12 → (∀ (b1 : A1) (b2 : A2) (b3 : A3) (b4 : A4) (b5 : A5) (b6 : A6) (b7 : A7) (b8 : A8) (b9 : A9) (b10 : A10) (b11 : A11) (b12 : A12), I b1 b2 b3 b4 b5 b6 b7 b8 b9 b10 b11 b12 → μ b1 b2 b3 b4 b5 b6 b7 b8 b9 b10 b11 b12 < μ a1 a2 a3 a4 a5 a6 a7 a8 a9 a10 a11 a12 → W n b1 b2 b3 b4 b5 b6 b7 b8 b9 b10 b11 b12) → W (n + 1) a1 a2 a3 a4 a5 a6 a7 a8 a9 a10 a11 a12) (a1 : A1) (a2 : A2) (a3 : A3) (a4 : A4) (a5 : A5) (a6 : A6) (a7 : A7) (a8 : A8) (a9 : A9) (a10 : A10) (a11 : A11) (a12 : A12) (h : I a1 a2 a3 a4 a5 a6 a7 a8 a9 a10 a11 a12) : ∃ n, W n a1 a2 a3 a4 a5 a6 a7 a8 a9 a10 a11 a12 :=
  loop_m (σ := A1 × A2 × A3 × A4 × A5 × A6 × A7 × A8 × A9 × A10 × A11 × A12) (fun n s => W n s.1 s.2.1 s.2.2.1 s.2.2.2.1 s.2.2.2.2.1 s.2.2.2.2.2.1 s.2.2.2.2.2.2.1 s.2.2.2.2.2.2.2.1 s.2.2.2.2.2.2.2.2.1 s.2.2.2.2.2.2.2.2.2.1 s.2.2.2.2.2.2.2.2.2.2.1 s.2.2.2.2.2.2.2.2.2.2.2) (fun s => I s.1 s.2.1 s.2.2.1 s.2.2.2.1 s.2.2.2.2.1 s.2.2.2.2.2.1 s.2.2.2.2.2.2.1 s.2.2.2.2.2.2.2.1 s.2.2.2.2.2.2.2.2.1 s.2.2.2.2.2.2.2.2.2.1 s.2.2.2.2.2.2.2.2.2.2.1 s.2.2.2.2.2.2.2.2.2.2.2) (fun s => μ s.1 s.2.1 s.2.2.1 s.2.2.2.1 s.2.2.2.2.1 s.2.2.2.2.2.1 s.2.2.2.2.2.2.1 s.2.2.2.2.2.2.2.1 s.2.2.2.2.2.2.2.2.1 s.2.2.2.2.2.2.2.2.2.1 s.2.2.2.2.2.2.2.2.2.2.1 s.2.2.2.2.2.2.2.2.2.2.2) (fun n s hI hk => hs n s.1 s.2.1 s.2.2.1 s.2.2.2.1 s.2.2.2.2.1 s.2.2.2.2.2.1 s.2.2.2.2.2.2.1 s.2.2.2.2.2.2.2.1 s.2.2.2.2.2.2.2.2.1 s.2.2.2.2.2.2.2.2.2.1 s.2.2.2.2.2.2.2.2.2.2.1 s.2.2.2.2.2.2.2.2.2.2.2 hI (fun b1 b2 b3 b4 b5 b6 b7 b8 b9 b10 b11 b12 h9 hm => hk (b1, b2, b3, b4, b5, b6, b7, b8, b9, b10, b11, b12) h9 hm)) (a1, a2, a3, a4, a5, a6, a7, a8, a9, a10, a11, a12) h
theorem lp13 {A1 A2 A3 A4 A5 A6 A7 A8 A9 A10 A11 A12 A13 : Type} (W : Nat → A1 → A2 → A3 → A4 → A5 → A6 → A7 → A8 → A9 → A10 → A11 → A12 → A13 → Prop) (I : A1 → A2 → A3 → A4 → A5 → A6 → A7 → A8 → A9 → A10 → A11 → A12 → A13 → Prop) (μ : A1 → A2 → A3 → A4 → A5 → A6 → A7 → A8 → A9 → A10 → A11 → A12 → A13 → Nat) (hs : ∀ (n : Nat) (a1 : A1) (a2 : A2) (a3 : A3) (a4 : A4) (a5 : A5) (a6 : A6) (a7 : A7) (a8 : A8) (a9 : A9) (a10 : A10) (a11 : A11) (a12 : A12) (a13 : A13), I a1 a2 a3 a4 a5 a6 a7 a8 a9 a10 a11 a12 a13 → (∀ (b1 : A1) (b2 : A2) (b3 : A3) (b4 : A4) (b5 : A5) (b6 : A6) (b7 : A7) (b8 : A8) (b9 : A9) (b10 : A10) (b11 : A11) (b12 : A12) (b13 : A13), I b1 b2 b3 b4 b5 b6 b7 b8 b9 b10 b11 b12 b13 → μ b1 b2 b3 b4 b5 b6 b7 b8 b9 b10 b11 b12 b13 < μ a1 a2 a3 a4 a5 a6 a7 a8 a9 a10 a11 a12 a13 → W n b1 b2 b3 b4 b5 b6 b7 b8 b9 b10 b11 b12 b13) → W (n + 1) a1 a2 a3 a4 a5 a6 a7 a8 a9 a10 a11 a12 a13) (a1 : A1) (a2 : A2) (a3 : A3) (a4 : A4) (a5 : A5) (a6 : A6) (a7 : A7) (a8 : A8) (a9 : A9) (a10 : A10) (a11 : A11) (a12 : A12) (a13 : A13) (h : I a1 a2 a3 a4 a5 a6 a7 a8 a9 a10 a11 a12 a13) : ∃ n, W n a1 a2 a3 a4 a5 a6 a7 a8 a9 a10 a11 a12 a13 :=
  loop_m (σ := A1 × A2 × A3 × A4 × A5 × A6 × A7 × A8 × A9 × A10 × A11 × A12 × A13) (fun n s => W n s.1 s.2.1 s.2.2.1 s.2.2.2.1 s.2.2.2.2.1 s.2.2.2.2.2.1 s.2.2.2.2.2.2.1 s.2.2.2.2.2.2.2.1 s.2.2.2.2.2.2.2.2.1 s.2.2.2.2.2.2.2.2.2.1 s.2.2.2.2.2.2.2.2.2.2.1 s.2.2.2.2.2.2.2.2.2.2.2.1 s.2.2.2.2.2.2.2.2.2.2.2.2) (fun s => I s.1 s.2.1 s.2.2.1 s.2.2.2.1 s.2.2.2.2.1 s.2.2.2.2.2.1 s.2.2.2.2.2.2.1 s.2.2.2.2.2.2.2.1 s.2.2.2.2.2.2.2.2.1 s.2.2.2.2.2.2.2.2.2.1 s.2.2.2.2.2.2.2.2.2.2.1 s.2.2.2.2.2.2.2.2.2.2.2.1 s.2.2.2.2.2.2.2.2.2.2.2.2) (fun s => μ s.1 s.2.1 s.2.2.1 s.2.2.2.1 s.2.2.2.2.1 s.2.2.2.2.2.1 s.2.2.2.2.2.2.1 s.2.2.2.2.2.2.2.1 s.2.2.2.2.2.2.2.2.1 s.2.2.2.2.2.2.2.2.2.1 s.2.2.2.2.2.2.2.2.2.2.1 s.2.2.2.2.2.2.2.2.2.2.2.1 s.2.2.2.2.2.2.2.2.2.2.2.2) (fun n s hI hk => hs n s.1 s.2.1 s.2.2.1 s.2.2.2.1 s.2.2.2.2.1 s.2.2.2.2.2.1 s.2.2.2.2.2.2.1 s.2.2.2.2.2.2.2.1 s.2.2.2.2.2.2.2.2.1 s.2.2.2.2.2.2.2.2.2.1 s.2.2.2.2.2.2.2.2.2.2.1 s.2.2.2.2.2.2.2.2.2.2.2.1 s.2.2.2.2.2.2.2.2.2.2.2.2 hI (fun b1 b2 b3 b4 b5 b6 b7 b8 b9 b10 b11 b12 b13 h9 hm => hk (b1, b2, b3, b4, b5, b6, b7, b8, b9, b10, b11, b12, b13) h9 hm)) (a1, a2, a3, a4, a5, a6, a7, a8, a9, a10, a11, a12, a13) h
theorem lp14 {A1 A2 A3 A4 A5 A6 A7 A8 A9 A10 A11 A12 A13 A14 : Type} (W : Nat → A1 → A2 → A3 → A4 → A5 → A6 → A7 → A8 → A9 → A10 → A11 → A12 → A13 → A14 → Prop) (I : A1 → A2 → A3 → A4 → A5 → A6 → A7 → A8 → A9 → A10 → A11 → A12 → A13 → A14 → Prop) (μ : A1 → A2 → A3 → A4 → A5 → A6 → A7 → A8 → A9 → A10 → A11 → A12 → A13 → A14 → Nat) (hs : ∀ (n : Nat) (a1 : A1) (a2 : A2) (a3 : A3) (a4 : A4) (a5 : A5) (a6 : A6) (a7 : A7) (a8 : A8) (a9 : A9) (a10 : A10) (a11 : A11) (a12 : A12) (a13 : A13) (a14 : A14), I a1 a2 a3 a4 a5 a6 a7 a8 a9 a10 a11 a12 a13 a14 → (∀ (b1 : A1) (b2 : A2) (b3 : A3) (b4 : A4) (b5 : A5) (b6 : A6) (b7 : A7) (b8 : A8) (b9 : A9) (b10 : A10) (b11 : A11) (b12 : A12) (b13 : A13) (b14 : A14), I b1 b2 b3 b4 b5 b6 b7 b8 b9 b10 b11 b12 b13 b14 → μ b1 b2 b3 b4 b5 b6 b7 b8 b9 b10 b11 b12 b13 b14 < μ a1 a2 a3 a4 a5 a6 a7 a8 a9 a10 a11 a12 a13 a14 → W n b1 b2 b3 b4 b5 b6 b7 b8 b9 b10 b11 b12 b13 b14) → W (n + 1) a1 a2 a3 a4 a5 a6 a7 a8 a9 a10 a11 a12 a13 a14) (a1 : A1) (a2 : A2) (a3 : A3) (a4 : A4) (a5 : A5) (a6 : A6) (a7 : A7) (a8 : A8) (a9 : A9) (a10 : A10) (a11 : A11) (a12 : A12) (a13 : A13) (a14 : A14) (h : I a1 a2 a3 a4 a5 a6 a7 a8 a9 a10 a11 a12 a13 a14) : ∃ n, W n a1 a2 a3 a4 a5 a6 a7 a8 a9 a10 a11 a12 a13 a14 :=
  loop_m (σ := A1 × A2 × A3 × A4 × A5 × A6 × A7 × A8 × A9 × A10 × A11 × A12 × A13 × A14) (fun n s => W n s.1 s.2.1 s.2.2.1 s.2.2.2.1 s.2.2.2.2.1 s.2.2.2.2.2.1 s.2.2.2.2.2.2.1 s.2.2.2.2.2.2.2.1 s.2.2.2.2.2.2.2.2.1 s.2.2.2.2.2.2.2.2.2.1 s.2.2.2.2.2.2.2.2.2.2.1 s.2.2.2.2.2.2.2.2.2.2.2.1 s.2.2.2.2.2.2.2.2.2.2.2.2.1 s.2.2.2.2.2.2.2.2.2.2.2.2.2) (fun s => I s.1 s.2.1 s.2.2.1 s.2.2.2.1 s.2.2.2.2.1 s.2.2.2.2.2.1 s.2.2.2.2.2.2.1 s.2.2.2.2.2.2.2.1 s.2.2.2.2.2.2.2.2.1 s.2.2.2.2.2.2.2.2.2.1 s.2.2.2.2.2.2.2.2.2.2.1 s.2.2.2.2.2.2.2.2.2.2.2.1 s.2.2.2.2.2.2.2.2.2.2.2.2.1 s.2.2.2.2.2.2.2.2.2.2.2.2.2) (fun s => μ s.1 s.2.1 s.2.2.1 s.2.2.2.1 s.2.2.2.2.1 s.2.2.2.2.2.1 s.2.2.2.2.2.2.1 s.2.2.2.2.2.2.2.1 s.2.2.2.2.2.2.2.2.1 s.2.2.2.2.2.2.2.2.2.1 s.2.2.2.2.2.2.2.2.2.2.1 s.2.2.2.2.2.2.2.2.2.2.2.1 s.2.2.2.2.2.2.2.2.2.2.2.2.1 s.2.2.2.2.2.2.2.2.2.2.2.2.2) (fun n s hI hk => hs n s.1 s.2.1 s.2.2.1 s.2.2.2.1 s.2.2.2.2.1 s.2.2.2.2.2.1 s.2.2.2.2.2.2.1 s.2.2.2.2.2.2.2.1 s.2.2.2.2.2.2.2.2.1 s.2.2.2.2.2.2.2.2.2.1 s.2.2.2.2.2.2.2.2.2.2.1 s.2.2.2.2.2.2.2.2.2.2.2.1 s.2.2.2.2.2.2.2.2.2.2.2.2.1 s.2.2.2.2.2.2.2.2.2.2.2.2.2 hI (fun b1 b2 b3 b4 b5 b6 b7 b8 b9 b10 b11 b12 b13 b14 h9 hm => hk (b1, b2, b3, b4, b5, b6, b7, b8, b9, b10, b11, b12, b13, b14) h9 hm)) (a1, a2, a3, a4, a5, a6, a7, a8, a9, a10, a11, a12, a13, a14) h
theorem lp15 {A1 A2 A3 A4 A5 A6 A7 A8 A9 A10 A11 A12 A13 A14 A15 : Type} (W : Nat → A1 → A2 → A3 → A4 → A5 → A6 → A7 → A8 → A9 → A10 → A11 → A12 → A13 → A14 → A15 → Prop) (I : A1 → A2 → A3 → A4 → A5 → A6 → A7 → A8 → A9 → A10 → A11 → A12 → A13 → A14 → A15 → Prop) (μ : A1 → A2 → A3 → A4 → A5 → A6 → A7 → A8 → A9 → A10 → A11 → A12 → A13 → A14 → A15 → Nat) (hs : ∀ (n : Nat) (a1 : A1) (a2 : A2) (a3 : A3) (a4 : A4) (a5 : A5) (a6 : A6) (a7 : A7) (a8 : A8) (a9 : A9) (a10 : A10) (a11 : A11) (a12 : A12) (a13 : A13) (a14 : A14) (a15 : A15), I a1 a2 a3 a4 a5 a6 a7 a8 a9 a10 a11 a12 a13 a14 a15 → (∀ (b1 : A1) (b2 : A2) (b3 : A3) (b4 : A4) (b5 : A5) (b6 : A6) (b7 : A7) (b8 : A8) (b9 : A9) (b10 : A10) (b11 : A11) (b12 : A12) (b13 : A13) (b14 : A14) (b15 : A15), I b1 b2 b3 b4 b5 b6 b7 b8 b9 b10 b11 b12 b13 b14 b15 → μ b1 b2 b3 b4 b5 b6 b7 b8 b9 b10 b11 b12 b13 b14 b15 < μ a1 a2 a3 a4 a5 a6 a7 a8 a9 a10 a11 a12 a13 a14 a15 → W n b1 b2 b3 b4 b5 b6 b7 b8 b9 b10 b11 b12 b13 b14 b15) → W (n + 1) a1 a2 a3 a4 a5 a6 a7 a8 a9 a10 a11 a12 a13 a14 a15) (a1 : A1) (a2 : A2) (a3 : A3) (a4 : A4) (a5 : A5) (a6 : A6) (a7 : A7) (a8 : A8) (a9 : A9) (a10 : A10) (a11 : A11) (a12 : A12) (a13 : A13) (a14 : A14) (a15 : A15) (h : I a1 a2 a3 a4 a5 a6 a7 a8 a9 a10 a11 a12 a13 a14 a15) : ∃ n, W n a1 a2 a3 a4 a5 a6 a7 a8 a9 a10 a11 a12 a13 a14 a15 :=
  loop_m (σ := A1 × A2 × A3 × A4 × A5 × A6 × A7 × A8 × A9 × A10 × A11 × A12 × A13 × A14 × A15) (fun n s => W n s.1 s.2.1 s.2.2.1 s.2.2.2.1 s.2.2.2.2.1 s.2.2.2.2.2.1 s.2.2.2.2.2.2.1 s.2.2.2.2.2.2.2.1 s.2.2.2.2.2.2.2.2.1 s.2.2.2.2.2.2.2.2.2.1 s.2.2.2.2.2.2.2.2.2.2.1 s.2.2.2.2.2.2.2.2.2.2.2.1 s.2.2.2.2.2.2.2.2.2.2.2.2.1 s.2.2.2.2.2.2.2.2.2.2.2.2.2.1 s.2.2.2.2.2.2.2.2.2.2.2.2.2.2) (fun s => I s.1 s.2.1 s.2.2.1 s.2.2.2.1 s.2.2.2.2.1 s.2.2.2.2.2.1 s.2.2.2.2.2.2.1 s.2.2.2.2.2.2.2.1 s.2.2.2.2.2.2.2.2.1 s.2.2.2.2.2.2.2.2.2.1 s.2.2.2.2.2.2.2.2.2.2.1 s.2.2.2.2.2.2.2.2.2.2.2.1 s.2.2.2.2.2.2.2.2.2.2.2.2.1 s.2.2.2.2.2.2.2.2.2.2.2.2.2.1 s.2.2.2.2.2.2.2.2.2.2.2.2.2.2) (fun s => μ s.1 s.2.1 s.2.2.1 s.2.2.2.1 s.2.2.2.2.1 s.2.2.2.2.2.1 s.2.2.2.2.2.2.1 s.2.2.2.2.2.2.2.1 s.2.2.2.2.2.2.2.2.1 s.2.2.2.2.2.2.2.2.2.1 s.2.2.2.2.2.2.2.2.2.2.1 s.2.2.2.2.2.2.2.2.2.2.2.1 s.2.2.2.2.2.2.2.2.2.2.2.2.1 s.2.2.2.2.2.2.2.2.2.2.2.2.2.1 s.2.2.2.2.2.2.2.2.2.2.2.2.2.2) (fun n s hI hk => hs n s.1 s.2.1 s.2.2.1 s.2.2.2.1 s.2.2.2.2.1 s.2.2.2.2.2.1 s.2.2.2.2.2.2.1 s.2.2.2.2.2.2.2.1 s.2.2.2.2.2.2.2.2.1 s.2.2.2.2.2.2.2.2.2.1 s.2.2.2.2.2.2.2.2.2.2.1 s.2.2.2.2.2.2.2.2.2.2.2.1 s.2.2.2.2.2.2.2.2.2.2.2.2.1 s.2.2.2.2.2.2.2.2.2.2.2.2.2.1 s.2.2.2.2.2.2.2.2.2.2.2.2.2.2 hI (fun b1 b2 b3 b4 b5 b6 b7 b8 b9 b10 b11 b12 b13 b14 b15 h9 hm => hk (b1, b2, b3, b4, b5, b6, b7, b8, b9, b10, b11, b12, b13, b14, b15) h9 hm)) (a1, a2, a3, a4, a5, a6, a7, a8, a9, a10, a11, a12, a13, a14, a15) h
theorem lp16 {A1 A2 A3 A4 A5 A6 A7 A8 A9 A10 A11 A12 A13 A14 A15 A16 : Type} (W : Nat → A1 → A2 → A3 → A4 → A5 → A6 → A7 → A8 → A9 → A10 → A11 → A12 → A13 → A14 → A15 → A16 → Prop) (I : A1 → A2 → A3 → A4 → A5 → A6 → A7 → A8 → A9 → A10 → A11 → A12 → A13 → A14 → A15 → A16 → Prop) (μ : A1 → A2 → A3 → A4 → A5 → A6 → A7 → A8 → A9 → A10 → A11 → A12 → A13 → A14 → A15 → A16 → Nat) (hs : ∀ (n : Nat) (a1 : A1) (a2 : A2) (a3 : A3) (a4 : A4) (a5 : A5) (a6 : A6) (a7 : A7) (a8 : A8) (a9 : A9) (a10 : A10) (a11 : A11) (a12 : A12) (a13 : A13) (a14 : A14) (a15 : A15) (a16 : A16), I a1 a2 a3 a4 a5 a6 a7 a8 a9 a10 a11 a12 a13 a14 a15 a16 → (∀ (b1 : A1) (b2 : A2) (b3 : A3) (b4 : A4) (b5 : A5) (b6 : A6) (b7 : A7) (b8 : A8) (b9 : A9) (b10 : A10) (b11 : A11) (b12 : A12) (b13 : A13) (b14 : A14) (b15 : A15) (b16 : A16), I b1 b2 b3 b4 b5 b6 b7 b8 b9 b10 b11 b12 b13 b14 b15 b16 → μ b1 b2 b3 b4 b5 b6 b7 b8 b9 b10 b11 b12 b13 b14 b15 b16 < μ a1 a2 a3 a4 a5 a6 a7 a8 a9 a10 a11 a12 a13 a14 a15 a16 → W n b1 b2 b3 b4 b5 b6 b7 b8 b9 b10 b11 b12 b13 b14 b15 b16) → W (n + 1) a1 a2 a3 a4 a5 a6 a7 a8 a9 a10 a11 a12 a13 a14 a15 a16) (a1 : A1) (a2 : A2) (a3 : A3) (a4 : A4) (a5 : A5) (a6 : A6) (a7 : A7) (a8 : A8) (a9 : A9) (a10 : A10) (a11 : A11) (a12 : A12) (a13 : A13) (a14 : A14) (a15 : A15) (a16 : A16) (h : I a1 a2 a3 a4 a5 a6 a7 a8 a9 a10 a11 a12 a13 a14 a15 a16) : ∃ n, W n a1 a2 a3 a4 a5 a6 a7 a8 a9 a10 a11 a12 a13 a14 a15 a16 :=
  loop_m (σ := A1 × A2 × A3 × A4 × A5 × A6 × A7 × A8 × A9 × A10 × A11 × A12 × A13 × A14 × A15 × A16) (fun n s => W n s.1 s.2.1 s.2.2.1 s.2.2.2.1 s.2.2.2.2.1 s.2.2.2.2.2.1 s.2.2.2.2.2.2.1 s.2.2.2.2.2.2.2.1 s.2.2.2.2.2.2.2.2.1 s.2.2.2.2.2.2.2.2.2.1 s.2.2.2.2.2.2.2.2.2.2.1 s.2.2.2.2.2.2.2.2.2.2.2.1 s.2.2.2.2.2.2.2.2.2.2.2.2.1 s.2.2.2.2.2.2.2.2.2.2.2.2.2.1 s.2.2.2.2.2.2.2.2.2.2.2.2.2.2.1 s.2.2.2.2.2.2.2.2.2.2.2.2.2.2.2) (fun s => I s.1 s.2.1 s.2.2.1 s.2.2.2.1 s.2.2.2.2.1 s.2.2.2.2.2.1 s.2.2.2.2.2.2.1 s.2.2.2.2.2.2.2.1 s.2.2.2.2.2.2.2.2.1 s.2.2.2.2.2.2.2.2.2.1 s.2.2.2.2.2.2.2.2.2.2.1 s.2.2.2.2.2.2.2.2.2.2.2.1 s.2.2.2.2.2.2.2.2.2.2.2.2.1 s.2.2.2.2.2.2.2.2.2.2.2.2.2.1 s.2.2.2.2.2.2.2.2.2.2.2.2.2.2.1 s.2.2.2.2.2.2.2.2.2.2.2.2.2.2.2) (fun s => μ s.1 s.2.1 s.2.2.1 s.2.2.2.1 s.2.2.2.2.1 s.2.2.2.2.2.1 s.2.2.2.2.2.2.1 s.2.2.2.2.2.2.2.1 s.2.2.2.2.2.2.2.2.1 s.2.2.2.2.2.2.2.2.2.1 s.2.2.2.2.2.2.2.2.2.2.1 s.2.2.2.2.2.2.2.2.2.2.2.1 s.2.2.2.2.2.2.2.2.2.2.2.2.1 s.2.2.2.2.2.2.2.2.2.2.2.2.2.1 s.2.2.2.2.2.2.2.2.2.2.2.2.2.2.1 s.2.2.2.2.2.2.2.2.2.2.2.2.2.2.2) (fun n s hI hk => hs n s.1 s.2.1 s.2.2.1 s.2.2.2.1 s.2.2.2.2.1 s.2.2.2.2.2.1 s.2.2.2.2.2.2.1 s.2.2.2.2.2.2.2.1 s.2.2.2.2.2.2.2.2.1 s.2.2.2.2.2.2.2.2.2.1 s.2.2.2.2.2.2.2.2.2.2.1 s.2.2.2.2.2.2.2.2.2.2.2.1 s.2.2.2.2.2.2.2.2.2.2.2.2.1 s.2.2.2.2.2.2.2.2.2.2.2.2.2.1 s.2.2.2.2.2.2.2.2.2.2.2.2.2.2.1 s.2.2.2.2.2.2.2.2.2.2.2.2.2.2.2 hI (fun b1 b2 b3 b4 b5 b6 b7 b8 b9 b10 b11 b12 b13 b14 b15 b16 h9 hm => hk (b1, b2, b3, b4, b5, b6, b7, b8, b9, b10, b11, b12, b13, b14, b15, b16) h9 hm)) (a1, a2, a3, a4, a5, a6, a7, a8, a9, a10, a11, a12, a13, a14, a15, a16) h
theorem pk_least (P : Nat → Prop) (h : ∃ k, P k) : ∃ k, P k ∧ ∀ j, j < k → ¬ P j := by
  obtain ⟨k, hk⟩ := h
  induction k using Nat.strongRecOn with
  | ind k ih =>
    by_cases e : ∃ j, j < k ∧ P j
    · obtain ⟨j, hj, pj⟩ := e
      exact ih j hj pj
    · exact ⟨k, hk, fun j hj pj => e ⟨j, hj, pj⟩⟩
theorem rp1 {ρ A1 : Type} (W : Nat → (ρ → Prop) → A1 → Prop) (ok : A1 → Prop) (μ : A1 → Nat) (val : A1 → ρ)
    (hs : ∀ (d : Nat) (post : ρ → Prop) (a1 : A1), ok a1 → post (val a1) → (∀ (post' : ρ → Prop) (b1 : A1), ok b1 → μ b1 < μ a1 → post' (val b1) → W d post' b1) → W (d + 1) post a1) :
    ∀ (d : Nat) (post : ρ → Prop) (a1 : A1), ok a1 → μ a1 < d → post (val a1) → W d post a1 := by
  intro d
  induction d with
  | zero => intro post a1 _ h; omega
  | succ d ih =>
    intro post a1 ho hm hp
    exact hs d post a1 ho hp (fun post' b1 ho' hm' hp' => ih post' b1 ho' (by omega) hp')
theorem rp2 {ρ A1 A2 : Type} (W : Nat → (ρ → Prop) → A1 → A2 → Prop) (ok : A1 → A2 → Prop) (μ : A1 → A2 → Nat) (val : A1 → A2 → ρ)
    (hs : ∀ (d : Nat) (post : ρ → Prop) (a1 : A1) (a2 : A2), ok a1 a2 → post (val a1 a2) → (∀ (post' : ρ → Prop) (b1 : A1) (b2 : A2), ok b1 b2 → μ b1 b2 < μ a1 a2 → post' (val b1 b2) → W d post' b1 b2) → W (d + 1) post a1 a2) :
    ∀ (d : Nat) (post : ρ → Prop) (a1 : A1) (a2 : A2), ok a1 a2 → μ a1 a2 < d → post (val a1 a2) → W d post a1 a2 := by
  intro d
  induction d with
  | zero => intro post a1 a2 _ h; omega
  | succ d ih =>
    intro post a1 a2 ho hm hp
    exact hs d post a1 a2 ho hp (fun post' b1 b2 ho' hm' hp' => ih post' b1 b2 ho' (by omega) hp')
theorem rp3 {ρ A1 A2 A3 : Type} (W : Nat → (ρ → Prop) → A1 → A2 → A3 → Prop) (ok : A1 → A2 → A3 → Prop) (μ : A1 → A2 → A3 → Nat) (val : A1 → A2 → A3 → ρ)
    (hs : ∀ (d : Nat) (post : ρ → Prop) (a1 : A1) (a2 : A2) (a3 : A3), ok a1 a2 a3 → post (val a1 a2 a3) → (∀ (post' : ρ → Prop) (b1 : A1) (b2 : A2) (b3 : A3), ok b1 b2 b3 → μ b1 b2 b3 < μ a1 a2 a3 → post' (val b1 b2 b3) → W d post' b1 b2 b3) → W (d + 1) post a1 a2 a3) :
    ∀ (d : Nat) (post : ρ → Prop) (a1 : A1) (a2 : A2) (a3 : A3), ok a1 a2 a3 → μ a1 a2 a3 < d → post (val a1 a2 a3) → W d post a1 a2 a3 := by
  intro d
  induction d with
  | zero => intro post a1 a2 a3 _ h; omega
  | succ d ih =>
    intro post a1 a2 a3 ho hm hp
    exact hs d post a1 a2 a3 ho hp (fun post' b1 b2 b3 ho' hm' hp' => ih post' b1 b2 b3 ho' (by omega) hp')
theorem rp4 {ρ A1 A2 A3 A4 : Type} (W : Nat → (ρ → Prop) → A1 → A2 → A3 → A4 → Prop) (ok : A1 → A2 → A3 → A4 → Prop) (μ : A1 → A2 → A3 → A4 → Nat) (val : A1 → A2 → A3 → A4 → ρ)
    (hs : ∀ (d : Nat) (post : ρ → Prop) (a1 : A1) (a2 : A2) (a3 : A3) (a4 : A4), ok a1 a2 a3 a4 → post (val a1 a2 a3 a4) → (∀ (post' : ρ → Prop) (b1 : A1) (b2 : A2) (b3 : A3) (b4 : A4), ok b1 b2 b3 b4 → μ b1 b2 b3 b4 < μ a1 a2 a3 a4 → post' (val b1 b2 b3 b4) → W d post' b1 b2 b3 b4) → W (d + 1) post a1 a2 a3 a4) :
    ∀ (d : Nat) (post : ρ → Prop) (a1 : A1) (a2 : A2) (a3 : A3) (a4 : A4), ok a1 a2 a3 a4 → μ a1 a2 a3 a4 < d → post (val a1 a2 a3 a4) → W d post a1 a2 a3 a4 := by
  intro d
  induction d with
  | zero => intro post a1 a2 a3 a4 _ h; omega
  | succ d ih =>
    intro post a1 a2 a3 a4 ho hm hp
    exact hs d post a1 a2 a3 a4 ho hp (fun post' b1 b2 b3 b4 ho' hm' hp' => ih post' b1 b2 b3 b4 ho' (by omega) hp')
theorem rp5 {ρ A1 A2 A3 A4 A5 : Type} (W : Nat → (ρ → Prop) → A1 → A2 → A3 → A4 → A5 → Prop) (ok : A1 → A2 → A3 → A4 → A5 → Prop) (μ : A1 → A2 → A3 → A4 → A5 → Nat) (val : A1 → A2 → A3 → A4 → A5 → ρ)
    (hs : ∀ (d : Nat) (post : ρ → Prop) (a1 : A1) (a2 : A2) (a3 : A3) (a4 : A4) (a5 : A5), ok a1 a2 a3 a4 a5 → post (val a1 a2 a3 a4 a5) → (∀ (post' : ρ → Prop) (b1 : A1) (b2 : A2) (b3 : A3) (b4 : A4) (b5 : A5), ok b1 b2 b3 b4 b5 → μ b1 b2 b3 b4 b5 < μ a1 a2 a3 a4 a5 → post' (val b1 b2 b3 b4 b5) → W d post' b1 b2 b3 b4 b5) → W (d + 1) post a1 a2 a3 a4 a5) :
    ∀ (d : Nat) (post : ρ → Prop) (a1 : A1) (a2 : A2) (a3 : A3) (a4 : A4) (a5 : A5), ok a1 a2 a3 a4 a5 → μ a1 a2 a3 a4 a5 < d → post (val a1 a2 a3 a4 a5) → W d post a1 a2 a3 a4 a5 := by
  intro d
  induction d with
  | zero => intro post a1 a2 a3 a4 a5 _ h; omega
  | succ d ih =>
    intro post a1 a2 a3 a4 a5 ho hm hp
    exact hs d post a1 a2 a3 a4 a5 ho hp (fun post' b1 b2 b3 b4 b5 ho' hm' hp' => ih post' b1 b2 b3 b4 b5 ho' (by omega) hp')
theorem rp6 {ρ A1 A2 A3 A4 A5 A6 : Type} (W : Nat → (ρ → Prop) → A1 → A2 → A3 → A4 → A5 → A6 → Prop) (ok : A1 → A2 → A3 → A4 → A5 → A6 → Prop) (μ : A1 → A2 → A3 → A4 → A5 → A6 → Nat) (val : A1 → A2 → A3 → A4 → A5 → A6 → ρ)
    (hs : ∀ (d : Nat) (post : ρ → Prop) (a1 : A1) (a2 : A2) (a3 : A3) (a4 : A4) (a5 : A5) (a6 : A6), ok a1 a2 a3 a4 a5 a6 → post (val a1 a2 a3 a4 a5 a6) → (∀ (post' : ρ → Prop) (b1 : A1) (b2 : A2) (b3 : A3) (b4 : A4) (b5 : A5) (b6 : A6), ok b1 b2 b3 b4 b5 b6 → μ b1 b2 b3 b4 b5 b6 < μ a1 a2 a3 a4 a5 a6 → post' (val b1 b2 b3 b4 b5 b6) → W d post' b1 b2 b3 b4 b5 b6) → W (d + 1) post a1 a2 a3 a4 a5 a6) :
    ∀ (d : Nat) (post : ρ → Prop) (a1 : A1) (a2 : A2) (a3 : A3) (a4 : A4) (a5 : A5) (a6 : A6), ok a1 a2 a3 a4 a5 a6 → μ a1 a2 a3 a4 a5 a6 < d → post (val a1 a2 a3 a4 a5 a6) → W d post a1 a2 a3 a4 a5 a6 := by
  intro d
  induction d with
  | zero => intro post a1 a2 a3 a4 a5 a6 _ h; omega
  | succ d ih =>
    intro post a1 a2 a3 a4 a5 a6 ho hm hp
    exact hs d post a1 a2 a3 a4 a5 a6 ho hp (fun post' b1 b2 b3 b4 b5 b6 ho' hm' hp' => ih post' b1 b2 b3 b4 b5 b6 ho' (by omega) hp')
theorem rec_p {σ ρ : Type} (W : Nat → (ρ → Prop) → σ → Prop) (ok : σ → Prop) (μ : σ → Nat) (val : σ → ρ)
    (hs : ∀ d s post, ok s → post (val s) → (∀ s' post', ok s' → μ s' < μ s → post' (val s') → W d post' s') → W (d + 1) post s) :
    ∀ d s post, ok s → μ s < d → post (val s) → W d post s := by
  intro d
  induction d with
  | zero => intro s post _ h; omega
  | succ d ih =>
    intro s post ho hm hp
    exact hs d s post ho hp (fun s' post' ho' hm' hp' => ih s' post' ho' (by omega) hp')
theorem rec_q {σ ρ : Type} (W : Nat → (ρ → Prop) → σ → Prop) (ok : σ → Prop) (μ : σ → Nat) (Q : σ → ρ → Prop)
    (hs : ∀ d s post, ok s → (∀ r, Q s r → post r) → (∀ s' post', ok s' → μ s' < μ s → (∀ r, Q s' r → post' r) → W d post' s') → W (d + 1) post s) :
    ∀ d s post, ok s → μ s < d → (∀ r, Q s r → post r) → W d post s := by
  intro d
  induction d with
  | zero => intro s post _ h; omega
  | succ d ih =>
    intro s post ho hm hp
    exact hs d s post ho hp (fun s' post' ho' hm' hp' => ih s' post' ho' (by omega) hp')
def bx_sum (f : Nat → Int32) : Nat → Int32
  | 0 => 0
  | n + 1 => bx_sum f n + f n
theorem ek_u {A : Prop} {B : Nat → Prop} {k N : Nat} (hk : k < N) (h : B k) : (some k = none → A) ∧ (∀ y : Nat, some k = some y → (y < N ∧ B y)) :=
  ⟨fun z => absurd z (Option.some_ne_none k), fun _ e => (by cases e; exact ⟨hk, h⟩)⟩
theorem ek_nu {A : Prop} {B : Nat → Prop} (h : A) : ((none : Option Nat) = none → A) ∧ (∀ y : Nat, (none : Option Nat) = some y → B y) :=
  ⟨fun _ => h, fun _ e => (by cases e)⟩
theorem ek_if {c d A B : Prop} (e : c ↔ d) (f : d → A) (g : ¬ d → B) : (c → A) ∧ (¬ c → B) :=
  ⟨fun z => f (e.mp z), fun z => g (fun y => z (e.mpr y))⟩
theorem ek_v {α : Sort _} {P : α → Prop} {a b : α} (e : a = b) (h : P b) : P a := e ▸ h
theorem co_some {x : Option Nat} {A : Prop} {B : Nat → Prop} (i : Nat) (h : B i) (hx : x = some i := by rfl) : (x = none → A) ∧ (∀ y : Nat, x = some y → B y) := by
  subst hx
  exact ⟨fun e => (nomatch e), fun y e => Option.some.inj e ▸ h⟩
theorem co_none {x : Option Nat} {A : Prop} {B : Nat → Prop} (h : A) (hx : x = none := by rfl) : (x = none → A) ∧ (∀ y : Nat, x = some y → B y) := by
  subst hx
  exact ⟨fun _ => h, fun y e => (nomatch e)⟩
theorem co_any {x : Option Nat} {A : Prop} {B : Nat → Prop} (hn : x = none → A) (hs : ∀ i : Nat, x = some i → B i) : (x = none → A) ∧ (∀ y : Nat, x = some y → B y) := ⟨hn, hs⟩
theorem co_2 {P : Nat → Prop} (h0 : P 0) (h1 : P 1) {i : Nat} (hi : i < 2) : P i :=
  match i, hi with
  | 0, _ => h0
  | 1, _ => h1
theorem co_3 {P : Nat → Prop} (h0 : P 0) (h1 : P 1) (h2 : P 2) {i : Nat} (hi : i < 3) : P i :=
  match i, hi with
  | 0, _ => h0
  | 1, _ => h1
  | 2, _ => h2
theorem co_4 {P : Nat → Prop} (h0 : P 0) (h1 : P 1) (h2 : P 2) (h3 : P 3) {i : Nat} (hi : i < 4) : P i :=
  match i, hi with
  | 0, _ => h0
  | 1, _ => h1
  | 2, _ => h2
  | 3, _ => h3
theorem co_dec {N : Nat} {P : Nat → Prop} [DecidablePred P] (h : (List.range N).all (fun i => decide (P i)) = true) {i : Nat} (hi : i < N) : P i := by
  have := List.all_eq_true.mp h i (List.mem_range.mpr hi)
  exact of_decide_eq_true this
theorem co_tab {α : Type} {l : List α} {d : α} {P : α → Prop} (h : ∀ a, a ∈ l → P a) {i : Nat} (hi : i < l.length) : P (l.getD i d) := by
  rw [List.getD_eq_getElem?_getD, List.getElem?_eq_getElem hi]
  exact h _ (List.getElem_mem hi)
theorem pk_mu {x : Int32} {L : Nat} (h0 : ¬ x < 0) (h : ¬ nI L ≤ x) (hL : L < 2 ^ 31) : ∃ j : Nat, j < L ∧ x = nI j ∧ x + 1 = nI (j + 1) ∧ x.toNatClampNeg = j ∧ L - (x + 1).toNatClampNeg < L - x.toNatClampNeg := by
  obtain ⟨j, hj, rfl⟩ := nI_of h0
  have hl : j < L := Nat.not_le.mp fun q => h (nI_le q hj)
  refine ⟨j, hl, rfl, nI_1 j, nI_clamp hj, ?_⟩
  rw [nI_1, nI_clamp (by omega), nI_clamp hj]
  omega
theorem op_s {α : Type} {r : Option α} {A : Prop} {B : α → Prop} {y : α} (h : r = some y) (b : B y) : (r = none → A) ∧ ∀ z, r = some z → B z :=
  ⟨fun e => (by rw [h] at e; cases e), fun z e => (by rw [h] at e; cases e; exact b)⟩
def l_holds {α : Type} (a : Nat → Option Nat) (LP : List Nat) (p : Nat → α) (c : Nat) (b : Nat → α) : Prop :=
  ∀ j, j < c → ∃ y, a j = some y ∧ y ∈ LP ∧ p y = b j
theorem l_holds_0 {α : Type} {a : Nat → Option Nat} {LP : List Nat} {p b : Nat → α} : l_holds a LP p 0 b := fun j h => absurd h (Nat.not_lt_zero j)
theorem l_in_new (LP : List Nat) (q : Nat) : q ∈ LP ++ [q] := List.mem_append.mpr (Or.inr (List.mem_singleton.mpr rfl))
def l_sum (b : Nat → Int32) : Nat → Int32
  | 0 => 0
  | k + 1 => l_sum b k + b k
theorem sb_shr0 (x : Int32) : x >>> ((0 : Int32) &&& 31) = x := by
  rw [show ((0 : Int32) &&& 31) = 0 by decide]
  simp
theorem sb_shl0 (x : Int32) : x <<< ((0 : Int32) &&& 31) = x := by
  rw [show ((0 : Int32) &&& 31) = 0 by decide]
  simp
theorem sb_cl0 : (0 : Int32).toNatClampNeg = 0 := by decide
theorem sb_m1 {p : Nat} (h : 0 < p) : nI p + (-1) = nI (p - 1) := by
  obtain ⟨q, rfl⟩ : ∃ q, p = q + 1 := ⟨p - 1, by omega⟩
  exact pk_m1 q
def sb_b (c : Nat) : Int32 := (nI c).toInt8.toInt32
theorem sb_byte : ∀ c, c < 256 → sb_b c &&& 255 = nI c ∧ ((nI c).toUInt32 % 65536).toInt32 = nI c ∧ nI c ≤ 255 := by decide +kernel
def sb_Fit (a : Nat → Int32) : Prop := ∀ j, fits .byte (.int (a j)) = true
def sb_Lat (t : Nat → Nat) (n : Nat) (a : Nat → Int32) : Prop := ∀ j, j < n → t j < 256 ∧ a j = sb_b (t j)
theorem sb_fitB (c : Nat) : fits .byte (.int (sb_b c)) = true := pk_fb _
theorem sb_fit0 : sb_Fit (fun _ => 0) := fun _ => by
  show fits .byte (.int 0) = true
  decide
theorem sb_fitU {a : Nat → Int32} {k : Nat} {x : Int32} (h : sb_Fit a) (hx : fits .byte (.int x) = true) : sb_Fit (upd a k x) := by
  intro j
  by_cases e : j = k
  · subst e
    rw [pk_us]
    exact hx
  · rw [pk_un e]
    exact h j
def sb_cat (t : Nat → Nat) (n : Nat) (s : Nat → Nat) : Nat → Nat := fun j => if j < n then t j else s (j - n)
theorem sb_cat_lo {t s : Nat → Nat} {n j : Nat} (h : j < n) : sb_cat t n s j = t j := if_pos h
theorem sb_cat_hi {t s : Nat → Nat} {n j : Nat} : sb_cat t n s (n + j) = s j := by
  show (if n + j < n then t (n + j) else s (n + j - n)) = s j
  rw [if_neg (by omega), Nat.add_sub_cancel_left]
theorem sb_latPut {t s : Nat → Nat} {n w : Nat} {a a' : Nat → Int32} (h : sb_Lat t n a) (hk : ∀ j, j < n → a' j = a j) (hs : ∀ i, i < w → s i < 256 ∧ a' (n + i) = sb_b (s i)) : sb_Lat (sb_cat t n s) (n + w) a' := by
  intro j hj
  by_cases e : j < n
  · rw [sb_cat_lo e, hk j e]
    exact h j e
  · obtain ⟨i, rfl⟩ : ∃ i, j = n + i := ⟨j - n, by omega⟩
    rw [sb_cat_hi]
    exact hs i (by omega)
theorem sb_latKeep {t : Nat → Nat} {n : Nat} {a a' : Nat → Int32} (h : sb_Lat t n a) (hk : ∀ j, j < n → a' j = a j) : sb_Lat t n a' := fun j hj => by
  rw [hk j hj]
  exact h j hj
def sb_cap (q m : Nat) : Nat := if q ≤ m then m else if 2 * m + 2 < q then q else 2 * m + 2
def sb_Room (q m mc ms : Nat) : Prop := q ≤ m ∨ (1 ≤ mc ∧ sb_cap q m ≤ ms ∧ sb_cap q m ≤ 65536)
theorem sb_cap_ge (q m : Nat) : q ≤ sb_cap q m := by
  unfold sb_cap
  split
  · omega
  · split <;> omega
theorem sb_cap_gem (q m : Nat) : m ≤ sb_cap q m := by
  unfold sb_cap
  split
  · omega
  · split <;> omega
theorem sb_cap_le {q m mc ms : Nat} (hm : m ≤ 65536) (hr : sb_Room q m mc ms) : sb_cap q m ≤ 65536 := by
  rcases hr with h | h
  · rw [sb_cap, if_pos h]
    exact hm
  · exact h.2.2
theorem sb_at {P : Int32 → Prop} {x y : Int32} (e : x = y) (h : P y) : P x := e ▸ h
def sb_dg (w : Nat) : Nat := if w < 10 then 1 else if w < 100 then 2 else if w < 1000 then 3 else if w < 10000 then 4 else if w < 100000 then 5 else if w < 1000000 then 6 else if w < 10000000 then 7 else if w < 100000000 then 8 else if w < 1000000000 then 9 else 10
def sb_dec (v : Nat) : Nat → Nat := fun i => 48 + v / 10 ^ (sb_dg v - 1 - i) % 10
theorem sb_dg_in (w : Nat) : 1 ≤ sb_dg w ∧ sb_dg w ≤ 10 := by
  unfold sb_dg
  constructor <;> (repeat' split) <;> omega
theorem sb_dg100 {w : Nat} (h : 100 ≤ w) (hw : w < 2 ^ 31) : sb_dg w = sb_dg (w / 100) + 2 := by
  rw [sb_dg, sb_dg, if_neg (show ¬ w < 10 by omega), if_neg (show ¬ w < 100 by omega)]
  by_cases h3 : w < 1000
  · rw [if_pos h3, if_pos (show w / 100 < 10 by omega)]
  rw [if_neg h3, if_neg (show ¬ w / 100 < 10 by omega)]
  by_cases h4 : w < 10000
  · rw [if_pos h4, if_pos (show w / 100 < 100 by omega)]
  rw [if_neg h4, if_neg (show ¬ w / 100 < 100 by omega)]
  by_cases h5 : w < 100000
  · rw [if_pos h5, if_pos (show w / 100 < 1000 by omega)]
  rw [if_neg h5, if_neg (show ¬ w / 100 < 1000 by omega)]
  by_cases h6 : w < 1000000
  · rw [if_pos h6, if_pos (show w / 100 < 10000 by omega)]
  rw [if_neg h6, if_neg (show ¬ w / 100 < 10000 by omega)]
  by_cases h7 : w < 10000000
  · rw [if_pos h7, if_pos (show w / 100 < 100000 by omega)]
  rw [if_neg h7, if_neg (show ¬ w / 100 < 100000 by omega)]
  by_cases h8 : w < 100000000
  · rw [if_pos h8, if_pos (show w / 100 < 1000000 by omega)]
  rw [if_neg h8, if_neg (show ¬ w / 100 < 1000000 by omega)]
  by_cases h9 : w < 1000000000
  · rw [if_pos h9, if_pos (show w / 100 < 10000000 by omega)]
  rw [if_neg h9, if_neg (show ¬ w / 100 < 10000000 by omega)]
  rw [if_pos (show w / 100 < 100000000 by omega)]
theorem sb_negT {w : Nat} (h : w < 2 ^ 31) : (-nI w).toInt = -(w : Int) := by
  rw [Int32.toInt_neg, nI_toInt h]
  exact Int.bmod_eq_of_le (by omega) (by omega)
theorem sb_nle {a b : Nat} (ha : a < 2 ^ 31) (hb : b < 2 ^ 31) : -nI a ≤ -nI b ↔ b ≤ a := by
  rw [Int32.le_iff_toInt_le, sb_negT ha, sb_negT hb]
  omega
theorem sb_nlt {a b : Nat} (ha : a < 2 ^ 31) (hb : b < 2 ^ 31) : -nI a < -nI b ↔ b < a := by
  rw [Int32.lt_iff_toInt_lt, sb_negT ha, sb_negT hb]
  omega
theorem sb_cmp {A B : Prop} {x : Int32} (v c : Nat) (f : c ≤ v → A) (g : v < c → B) (hv : v < 2 ^ 31) (hx : x = -nI c := by rfl) (hc : c < 2 ^ 31 := by omega) : (-nI v ≤ x → A) ∧ (¬ -nI v ≤ x → B) := by
  subst hx
  rw [sb_nle hv hc]
  exact ⟨f, fun z => g (by omega)⟩
theorem sb_ndiv {w : Nat} (hw : w < 2 ^ 31) : (-nI w) / 100 = -nI (w / 100) := by
  apply Int32.toInt_inj.mp
  have h100 : (100 : Int32).toInt = 100 := by decide
  rw [Int32.toInt_div, sb_negT hw, h100, sb_negT (by omega), Int.neg_tdiv, Int.tdiv_eq_ediv_of_nonneg (by omega), Int.bmod_eq_of_le (by omega) (by omega)]
  omega
theorem sb_nrem {w : Nat} (hw : w < 2 ^ 31) : (-nI (w / 100)) * 100 - (-nI w) = nI (w % 100) := by
  have h := pk_rem (a := w) (d := 100) hw (by decide) (by decide)
  rw [pk_div hw (by decide) (by decide)] at h
  rw [← h]
  show (-nI (w / 100)) * nI 100 - (-nI w) = nI w - nI (w / 100) * nI 100
  rw [Int32.neg_mul, Int32.sub_neg, Int32.add_comm, ← Int32.sub_eq_add_neg]
end
section
/-! tokens, heights, matched brackets, what the compiler has laid so far -/
abbrev tc_T : Type := Int32 × Int32

def tc_hz (o : Nat → Int32) : Nat → Int
  | 0 => 0
  | j + 1 => tc_hz o j + (if o j = 2 then 1 else if o j = 3 then -1 else 0)

theorem tc_hz_c {o o' : Nat → Int32} {n : Nat} (h : ∀ i, i < n → o' i = o i) : ∀ j, j ≤ n → tc_hz o' j = tc_hz o j := by
  intro j
  induction j with
  | zero => intro _; rfl
  | succ j ih =>
    intro hj
    simp only [tc_hz]
    rw [ih (by omega), h j (by omega)]

theorem tc_hz2 {o : Nat → Int32} {j : Nat} (h : o j = 2) : tc_hz o (j + 1) = tc_hz o j + 1 := by
  simp only [tc_hz]
  rw [if_pos h]
theorem tc_hz3 {o : Nat → Int32} {j : Nat} (h : o j = 3) : tc_hz o (j + 1) = tc_hz o j - 1 := by
  simp only [tc_hz]
  rw [if_neg (by rw [h]; decide), if_pos h]
  omega
theorem tc_hz0 {o : Nat → Int32} {j : Nat} (h2 : o j ≠ 2) (h3 : o j ≠ 3) : tc_hz o (j + 1) = tc_hz o j := by
  simp only [tc_hz]
  rw [if_neg h2, if_neg h3]
  omega

/-- the brackets at j and k belong together and know each other -/
def tc_mt (o nu : Nat → Int32) (j k : Nat) : Prop := j < k ∧ o j = 2 ∧ o k = 3 ∧ nu j = nI k ∧ nu k = nI j ∧ tc_hz o (k + 1) = tc_hz o j ∧ ∀ i, j < i → i ≤ k → tc_hz o j < tc_hz o i

theorem tc_mt_c {o nu o' nu' : Nat → Int32} {j k : Nat} (h : tc_mt o nu j k) (ho : ∀ i, i ≤ k → o' i = o i) (hj : nu' j = nu j) (hk : nu' k = nu k) : tc_mt o' nu' j k := by
  obtain ⟨a, b, c, d, e, f, g⟩ := h
  have hz : ∀ i, i ≤ k + 1 → tc_hz o' i = tc_hz o i := tc_hz_c (fun i hi => ho i (by omega))
  refine ⟨a, by rw [ho j (by omega)]; exact b, by rw [ho k (by omega)]; exact c, by rw [hj]; exact d, by rw [hk]; exact e, by rw [hz _ (by omega), hz _ (by omega)]; exact f, fun i hi hi' => by rw [hz _ (by omega), hz _ (by omega)]; exact g i hi hi'⟩

/-- the tokens L lie in the arrays from a on -/
def tc_lay (o nu : Nat → Int32) (a : Nat) (L : List tc_T) : Prop := ∀ j t, L[j]? = some t → o (a + j) = t.1 ∧ (t.1 ≠ 2 → t.1 ≠ 3 → nu (a + j) = t.2)

theorem tc_lay_nil {o nu : Nat → Int32} {a : Nat} : tc_lay o nu a [] := fun j t h => by simp at h
theorem tc_lay_one {o nu : Nat → Int32} {a : Nat} {t : tc_T} : tc_lay o nu a [t] ↔ (o a = t.1 ∧ (t.1 ≠ 2 → t.1 ≠ 3 → nu a = t.2)) := by
  constructor
  · intro h
    exact h 0 t rfl
  · intro h j t' hj
    cases j with
    | zero =>
      have e : t = t' := by simpa using hj
      subst e
      exact h
    | succ j => simp at hj
theorem tc_lay_app {o nu : Nat → Int32} {a : Nat} {L1 L2 : List tc_T} : tc_lay o nu a (L1 ++ L2) ↔ tc_lay o nu a L1 ∧ tc_lay o nu (a + L1.length) L2 := by
  constructor
  · intro h
    constructor
    · intro j t hj
      obtain ⟨hl, _⟩ := List.getElem?_eq_some_iff.mp hj
      exact h j t (by rw [List.getElem?_append_left hl]; exact hj)
    · intro j t hj
      have := h (L1.length + j) t (by rw [List.getElem?_append_right (by omega), Nat.add_sub_cancel_left]; exact hj)
      rw [← Nat.add_assoc] at this
      exact this
  · intro h j t hj
    by_cases hl : j < L1.length
    · rw [List.getElem?_append_left hl] at hj
      exact h.1 j t hj
    · rw [List.getElem?_append_right (by omega)] at hj
      have := h.2 (j - L1.length) t hj
      rw [show a + L1.length + (j - L1.length) = a + j by omega] at this
      exact this
theorem tc_lay_c {o nu o' nu' : Nat → Int32} {a : Nat} {L : List tc_T} (h : tc_lay o nu a L) (ho : ∀ i, i < L.length → o' (a + i) = o (a + i)) (hn : ∀ i, i < L.length → o (a + i) ≠ 2 → nu' (a + i) = nu (a + i)) : tc_lay o' nu' a L := by
  intro j t hj
  obtain ⟨hl, _⟩ := List.getElem?_eq_some_iff.mp hj
  obtain ⟨h1, h2⟩ := h j t hj
  refine ⟨by rw [ho j hl]; exact h1, fun n2 n3 => ?_⟩
  rw [hn j hl (by rw [h1]; exact n2)]
  exact h2 n2 n3

/-- L is laid from 0 on, its closed brackets are matched, the d open ones stand on the stack lo -/
def tc_EI (L : List tc_T) (d : Nat) (o nu lo : Nat → Int32) : Prop :=
  tc_lay o nu 0 L ∧ tc_hz o L.length = (d : Int) ∧
  ∃ st : Nat → Nat, (∀ i, i < d → st i < L.length ∧ o (st i) = 2 ∧ lo i = nI (st i) ∧ tc_hz o (st i) = (i : Int) ∧ ∀ j, st i < j → j ≤ L.length → (i : Int) < tc_hz o j) ∧
  (∀ j, j < L.length → o j = 2 → (∃ i, i < d ∧ st i = j) ∨ ∃ k, k < L.length ∧ tc_mt o nu j k)

theorem tc_EI_0 (o nu lo : Nat → Int32) : tc_EI [] 0 o nu lo := by
  refine ⟨tc_lay_nil, rfl, fun _ => 0, fun i hi => absurd hi (by omega), fun j hj => ?_⟩
  simp at hj

theorem tc_EI_put {L : List tc_T} {d : Nat} {o nu lo : Nat → Int32} (h : tc_EI L d o nu lo) (t : tc_T) (h2 : t.1 ≠ 2) (h3 : t.1 ≠ 3) : tc_EI (L ++ [t]) d (upd o L.length t.1) (upd nu L.length t.2) lo := by
  obtain ⟨hT, hd, st, hs, hm⟩ := h
  have ho : ∀ i, i < L.length → upd o L.length t.1 i = o i := fun i hi => pk_un (by omega)
  have hn : ∀ i, i < L.length → upd nu L.length t.2 i = nu i := fun i hi => pk_un (by omega)
  have hz := tc_hz_c ho
  have hl : (L ++ [t]).length = L.length + 1 := by simp
  have hz1 : tc_hz (upd o L.length t.1) (L.length + 1) = (d : Int) := by
    rw [tc_hz0 (by rw [pk_us]; exact h2) (by rw [pk_us]; exact h3), hz _ (Nat.le_refl _), hd]
  refine ⟨?_, by rw [hl]; exact hz1, st, ?_, ?_⟩
  · rw [tc_lay_app]
    refine ⟨tc_lay_c hT (fun i hi => by rw [Nat.zero_add]; exact ho i hi) (fun i hi _ => by rw [Nat.zero_add]; exact hn i hi), ?_⟩
    rw [tc_lay_one, Nat.zero_add]
    exact ⟨pk_us, fun _ _ => pk_us⟩
  · intro i hi
    obtain ⟨a, b, c, e, f⟩ := hs i hi
    refine ⟨by omega, by rw [ho _ a]; exact b, c, by rw [hz _ (by omega)]; exact e, fun j hj hj' => ?_⟩
    by_cases hjl : j ≤ L.length
    · rw [hz _ hjl]; exact f j hj hjl
    · have : j = L.length + 1 := by omega
      rw [this, hz1]; omega
  · intro j hj hj2
    rw [hl] at hj
    by_cases hjl : j < L.length
    · rw [ho j hjl] at hj2
      rcases hm j hjl hj2 with hA | ⟨k, hk, hM⟩
      · exact Or.inl hA
      · exact Or.inr ⟨k, by omega, tc_mt_c hM (fun i hi => ho i (by omega)) (hn j hjl) (hn k hk)⟩
    · have : j = L.length := by omega
      rw [this, pk_us] at hj2
      exact absurd hj2 h2

theorem tc_EI_open {L : List tc_T} {d : Nat} {o nu lo : Nat → Int32} (h : tc_EI L d o nu lo) : tc_EI (L ++ [(2, 0)]) (d + 1) (upd o L.length 2) (upd nu L.length 0) (upd lo d (nI L.length)) := by
  obtain ⟨hT, hd, st, hs, hm⟩ := h
  have ho : ∀ i, i < L.length → upd o L.length 2 i = o i := fun i hi => pk_un (by omega)
  have hn : ∀ i, i < L.length → upd nu L.length 0 i = nu i := fun i hi => pk_un (by omega)
  have hz := tc_hz_c ho
  have hl : (L ++ [((2, 0) : tc_T)]).length = L.length + 1 := by simp
  have hz1 : tc_hz (upd o L.length 2) (L.length + 1) = (d : Int) + 1 := by
    rw [tc_hz2 pk_us, hz _ (Nat.le_refl _), hd]
  refine ⟨?_, by rw [hl, hz1]; omega, fun i => if i = d then L.length else st i, ?_, ?_⟩
  · rw [tc_lay_app]
    refine ⟨tc_lay_c hT (fun i hi => by rw [Nat.zero_add]; exact ho i hi) (fun i hi _ => by rw [Nat.zero_add]; exact hn i hi), ?_⟩
    rw [tc_lay_one, Nat.zero_add]
    exact ⟨pk_us, fun _ _ => pk_us⟩
  · intro i hi
    by_cases hid : i = d
    · subst hid
      simp only [if_pos]
      refine ⟨by omega, pk_us, pk_us, by rw [hz _ (Nat.le_refl _)]; exact hd, fun j hj hj' => ?_⟩
      have : j = L.length + 1 := by omega
      rw [this, hz1]; omega
    · simp only [if_neg hid]
      obtain ⟨a, b, c, e, f⟩ := hs i (by omega)
      refine ⟨by omega, by rw [ho _ a]; exact b, by rw [pk_un hid]; exact c, by rw [hz _ (by omega)]; exact e, fun j hj hj' => ?_⟩
      by_cases hjl : j ≤ L.length
      · rw [hz _ hjl]; exact f j hj hjl
      · have : j = L.length + 1 := by omega
        rw [this, hz1]; omega
  · intro j hj hj2
    rw [hl] at hj
    by_cases hjl : j < L.length
    · rw [ho j hjl] at hj2
      rcases hm j hjl hj2 with ⟨i, hi, e⟩ | ⟨k, hk, hM⟩
      · exact Or.inl ⟨i, by omega, by dsimp only; rw [if_neg (by omega)]; exact e⟩
      · exact Or.inr ⟨k, by omega, tc_mt_c hM (fun i hi => ho i (by omega)) (hn j hjl) (hn k hk)⟩
    · exact Or.inl ⟨d, by omega, by dsimp only; rw [if_pos rfl]; omega⟩

theorem tc_EI_close {L : List tc_T} {d : Nat} {o nu lo : Nat → Int32} (h : tc_EI L (d + 1) o nu lo) : ∃ s, s < L.length ∧ lo d = nI s ∧ tc_EI (L ++ [(3, 0)]) d (upd o L.length 3) (upd (upd nu s (nI L.length)) L.length (nI s)) lo := by
  obtain ⟨hT, hd, st, hs, hm⟩ := h
  obtain ⟨sa, sb, sc, se, sf⟩ := hs d (by omega)
  refine ⟨st d, sa, sc, ?_⟩
  have ho : ∀ i, i < L.length → upd o L.length 3 i = o i := fun i hi => pk_un (by omega)
  have hn : ∀ i, i < L.length → i ≠ st d → upd (upd nu (st d) (nI L.length)) L.length (nI (st d)) i = nu i := fun i hi hi' => by
    rw [pk_un (by omega), pk_un hi']
  have hz := tc_hz_c ho
  have hl : (L ++ [((3, 0) : tc_T)]).length = L.length + 1 := by simp
  have hz1 : tc_hz (upd o L.length 3) (L.length + 1) = (d : Int) := by
    rw [tc_hz3 pk_us, hz _ (Nat.le_refl _), hd]; omega
  refine ⟨?_, by rw [hl, hz1], st, ?_, ?_⟩
  · rw [tc_lay_app]
    refine ⟨tc_lay_c hT (fun i hi => by rw [Nat.zero_add]; exact ho i hi) (fun i hi h2 => ?_), ?_⟩
    · rw [Nat.zero_add] at h2 ⊢
      exact hn i hi (fun e => h2 (by rw [e]; exact sb))
    · rw [tc_lay_one, Nat.zero_add]
      exact ⟨pk_us, fun _ n3 => absurd rfl n3⟩
  · intro i hi
    obtain ⟨a, b, c, e, f⟩ := hs i (by omega)
    refine ⟨by omega, by rw [ho _ a]; exact b, c, by rw [hz _ (by omega)]; exact e, fun j hj hj' => ?_⟩
    by_cases hjl : j ≤ L.length
    · rw [hz _ hjl]; exact f j hj hjl
    · have : j = L.length + 1 := by omega
      rw [this, hz1]; omega
  · intro j hj hj2
    rw [hl] at hj
    by_cases hjl : j < L.length
    · by_cases hjs : j = st d
      · refine Or.inr ⟨L.length, by omega, by omega, hj2, pk_us, ?_, ?_, ?_, ?_⟩
        · rw [pk_un (by omega), hjs, pk_us]
        · rw [pk_us, hjs]
        · rw [hz1, hz _ (by omega), hjs, se]
        · intro i hi hi'
          rw [hz _ hi', hz _ (by omega), hjs, se]
          exact sf i (by omega) hi'
      · rw [ho j hjl] at hj2
        rcases hm j hjl hj2 with ⟨i, hi, e⟩ | ⟨k, hk, hM⟩
        · have : i ≠ d := fun z => hjs (by rw [← e, z])
          exact Or.inl ⟨i, by omega, e⟩
        · have hks : k ≠ st d := fun z => by
            have := hM.2.2.1
            rw [z, sb] at this
            exact absurd this (by decide)
          exact Or.inr ⟨k, by omega, tc_mt_c hM (fun i hi => ho i (by omega)) (hn j hjl hjs) (hn k hk hks)⟩
    · have : j = L.length := by omega
      rw [this, pk_us] at hj2
      exact absurd hj2 (by decide)
end
section
/-! the code of each small thing, as a list of tokens -/
def tc_mv (p q : Nat) : List tc_T := if q = p then [] else [(0, nI q - nI p)]
def tc_lp (B : List tc_T) : List tc_T := [(2, 0)] ++ B ++ [(3, 0)]
def tc_carry (p a b : Nat) : List tc_T := tc_mv p a ++ tc_lp ([(1, 15)] ++ tc_mv a b ++ [(1, 1)] ++ tc_mv b a)
def tc_copy (p a b : Nat) : List tc_T := tc_mv p a ++ tc_lp ([(1, 15)] ++ tc_mv a b ++ [(1, 1)] ++ tc_mv b 19 ++ [(1, 1)] ++ tc_mv 19 a) ++ tc_carry a 19 a
def tc_clear (p a : Nat) : List tc_T := tc_mv p a ++ tc_lp [(1, 15)]
def tc_repl (p x b : Nat) : List tc_T := tc_clear p x ++ tc_carry x b x
def tc_sub (p x y : Nat) : List tc_T := tc_copy p y 10 ++ tc_mv 19 10 ++ tc_lp ([(1, 15)] ++ tc_mv 10 x ++ [(1, 15)] ++ tc_mv x 10)
def tc_prod (p x y z : Nat) : List tc_T := tc_copy p y 10 ++ tc_copy 19 z 11 ++ tc_mv 19 10 ++ tc_lp ([(1, 15)] ++ tc_copy 10 11 12 ++ tc_mv 19 10) ++ tc_clear 10 11 ++ tc_repl 11 x 12
def tc_lessA : List tc_T := tc_clear 14 14 ++ tc_mv 14 13 ++ [(1, 15)] ++ tc_mv 13 10 ++ [(1, 15)] ++ tc_mv 10 14
def tc_lessB : List tc_T := [(1, 15)] ++ tc_mv 13 12 ++ [(1, 1)] ++ tc_clear 12 11 ++ tc_mv 11 13
def tc_lessL : List tc_T := [(1, 15)] ++ tc_mv 11 13 ++ [(1, 1)] ++ tc_copy 13 10 14 ++ tc_mv 19 14 ++ tc_lp tc_lessA ++ tc_mv 14 13 ++ tc_lp tc_lessB ++ tc_mv 13 11
def tc_less (p x y z : Nat) : List tc_T := tc_copy p y 10 ++ tc_copy 19 z 11 ++ tc_mv 19 11 ++ tc_lp tc_lessL ++ tc_clear 11 10 ++ tc_repl 10 x 12
def tc_diff (p y z : Nat) : List tc_T := tc_copy p y 10 ++ tc_copy 19 z 11 ++ tc_mv 19 11 ++ tc_lp ([(1, 15)] ++ tc_mv 11 10 ++ [(1, 15)] ++ tc_mv 10 11)
def tc_same (p x y z : Nat) : List tc_T := tc_diff p y z ++ tc_mv 11 12 ++ [(1, 1)] ++ tc_mv 12 10 ++ tc_lp (tc_clear 10 10 ++ tc_mv 10 12 ++ [(1, 15)] ++ tc_mv 12 10) ++ tc_repl 10 x 12
def tc_quoA : List tc_T := tc_clear 14 14 ++ tc_mv 14 13 ++ [(1, 15)] ++ tc_mv 13 14
def tc_quoB (z : Nat) : List tc_T := [(1, 15)] ++ tc_mv 13 12 ++ [(1, 1)] ++ tc_copy 12 z 11 ++ tc_mv 19 13
def tc_quoL (z : Nat) : List tc_T := [(1, 15)] ++ tc_mv 10 11 ++ [(1, 15)] ++ tc_mv 11 13 ++ [(1, 1)] ++ tc_copy 13 11 14 ++ tc_mv 19 14 ++ tc_lp tc_quoA ++ tc_mv 14 13 ++ tc_lp (tc_quoB z) ++ tc_mv 13 10
def tc_quoM (y z : Nat) : List tc_T := tc_clear 15 15 ++ tc_copy 15 y 10 ++ tc_copy 19 z 11 ++ tc_mv 19 10 ++ tc_lp (tc_quoL z) ++ tc_clear 10 11 ++ tc_mv 11 15
def tc_quot (p x y z : Nat) : List tc_T := tc_copy p z 15 ++ tc_mv 19 15 ++ tc_lp (tc_quoM y z) ++ tc_repl 15 x 12
def tc_sh (k : Int32) : List tc_T := tc_lp ([(1, 15)] ++ [(0, k)] ++ [(1, 1)] ++ [(0, -k)])
def tc_outL : List tc_T := [(1, 15)] ++ tc_sh 4 ++ [(0, 1)] ++ tc_sh 4 ++ [(0, 2)] ++ [(1, 1)] ++ [(0, 1)]
def tc_out : List tc_T := tc_lp tc_outL
def tc_pickL : List tc_T := [(1, 15)] ++ [(0, -1)] ++ [(1, 1)] ++ [(0, -1)] ++ [(1, 1)] ++ [(0, 2)]
def tc_pick : List tc_T := [(0, 2)] ++ tc_lp tc_pickL ++ [(0, -2)] ++ tc_sh 2
def tc_backL : List tc_T := [(1, 15)] ++ [(0, 2)] ++ tc_sh (-4) ++ [(0, -6)]
def tc_back : List tc_T := [(0, -1)] ++ tc_lp tc_backL
def tc_get (p x y : Nat) : List tc_T := tc_copy p y 25 ++ tc_mv 19 25 ++ tc_out ++ tc_pick ++ tc_back ++ tc_repl 24 x 26
def tc_put (p x y : Nat) : List tc_T := tc_copy p x 25 ++ tc_copy 19 y 26 ++ tc_mv 19 25 ++ tc_out ++ [(0, 2)] ++ tc_lp [(1, 15)] ++ [(0, -1)] ++ tc_sh 1 ++ [(0, -1)] ++ tc_back
def tc_set (p x y : Nat) : List tc_T := tc_clear p x ++ (if y = 0 then [] else [(1, nI y)])

/-- the code of a plain statement that is compiled where the machine stands at p, and where it stands then -/
def tc_pl (k x y z p : Nat) : List tc_T × Nat :=
  if k = 0 then (tc_set p x y, x)
  else if k = 1 then (tc_copy p y 10 ++ tc_repl 19 x 10, 10)
  else if k = 2 then (tc_copy p y 10 ++ tc_carry 19 10 x, 10)
  else if k = 3 then (tc_sub p x y, 10)
  else if k = 4 then (tc_prod p x y z, 12)
  else if k = 5 then (tc_less p x y z, 12)
  else if k = 6 then (tc_same p x y z, 12)
  else if k = 7 then (tc_get p x y, 26)
  else if k = 8 then (tc_put p x y, 24)
  else if k = 9 then (tc_mv p x ++ [(4, 0)], x)
  else (tc_quot p x y z, 12)

theorem tc_mv_s (p : Nat) : tc_mv p p = [] := if_pos rfl
theorem tc_mv_len (p q : Nat) : (tc_mv p q).length ≤ 1 := by
  unfold tc_mv
  by_cases h : q = p
  · rw [if_pos h]; exact Nat.zero_le _
  · rw [if_neg h]; exact Nat.le_refl _
theorem tc_lp_len (B : List tc_T) : (tc_lp B).length = B.length + 2 := by
  unfold tc_lp
  simp only [List.length_append, List.length_cons, List.length_nil]
  omega
theorem tc_carry_len (p a b : Nat) : (tc_carry p a b).length ≤ 7 := by
  have h1 := tc_mv_len p a
  have h2 := tc_mv_len a b
  have h3 := tc_mv_len b a
  simp only [tc_carry, tc_lp_len, List.length_append, List.length_cons, List.length_nil]
  omega
theorem tc_copy_len (p a b : Nat) : (tc_copy p a b).length ≤ 16 := by
  have h1 := tc_mv_len p a
  have h2 := tc_mv_len a b
  have h3 := tc_mv_len b 19
  have h4 := tc_mv_len 19 a
  have h5 := tc_carry_len a 19 a
  simp only [tc_copy, tc_lp_len, List.length_append, List.length_cons, List.length_nil]
  omega
theorem tc_clear_len (p a : Nat) : (tc_clear p a).length ≤ 4 := by
  have h1 := tc_mv_len p a
  simp only [tc_clear, tc_lp_len, List.length_append, List.length_cons, List.length_nil]
  omega
theorem tc_repl_len (p x b : Nat) : (tc_repl p x b).length ≤ 11 := by
  have h1 := tc_clear_len p x
  have h2 := tc_carry_len x b x
  simp only [tc_repl, List.length_append]
  omega
theorem tc_sub_len (p x y : Nat) : (tc_sub p x y).length ≤ 30 := by
  have h1 := tc_copy_len p y 10
  have h2 := tc_mv_len 19 10
  have h3 := tc_mv_len 10 x
  have h4 := tc_mv_len x 10
  simp only [tc_sub, tc_lp_len, List.length_append, List.length_cons, List.length_nil]
  omega
theorem tc_prod_len (p x y z : Nat) : (tc_prod p x y z).length ≤ 80 := by
  have h1 := tc_copy_len p y 10
  have h2 := tc_copy_len 19 z 11
  have h3 := tc_mv_len 19 10
  have h4 := tc_copy_len 10 11 12
  have h5 := tc_clear_len 10 11
  have h6 := tc_repl_len 11 x 12
  simp only [tc_prod, tc_lp_len, List.length_append, List.length_cons, List.length_nil]
  omega
theorem tc_less_len (p x y z : Nat) : (tc_less p x y z).length ≤ 120 := by
  have h1 := tc_copy_len p y 10
  have h2 := tc_copy_len 19 z 11
  have h3 := tc_mv_len 19 11
  have h4 := tc_copy_len 13 10 14
  have h5 := tc_clear_len 11 10
  have h6 := tc_repl_len 10 x 12
  have a1 := tc_mv_len 11 13
  have a2 := tc_mv_len 19 14
  have a3 := tc_mv_len 14 13
  have a4 := tc_mv_len 13 11
  have b1 := tc_clear_len 14 14
  have b2 := tc_mv_len 13 10
  have b3 := tc_mv_len 10 14
  have c1 := tc_mv_len 13 12
  have c2 := tc_clear_len 12 11
  simp only [tc_less, tc_lessL, tc_lessA, tc_lessB, tc_lp_len, List.length_append, List.length_cons, List.length_nil]
  omega
theorem tc_same_len (p x y z : Nat) : (tc_same p x y z).length ≤ 80 := by
  have h1 := tc_copy_len p y 10
  have h2 := tc_copy_len 19 z 11
  have h3 := tc_mv_len 19 11
  have h4 := tc_mv_len 11 10
  have h5 := tc_mv_len 10 11
  have h6 := tc_mv_len 11 12
  have h7 := tc_mv_len 12 10
  have h8 := tc_clear_len 10 10
  have h9 := tc_mv_len 10 12
  have h10 := tc_repl_len 10 x 12
  simp only [tc_same, tc_diff, tc_lp_len, List.length_append, List.length_cons, List.length_nil]
  omega
theorem tc_quot_len (p x y z : Nat) : (tc_quot p x y z).length ≤ 150 := by
  have h1 := tc_copy_len p z 15
  have h2 := tc_mv_len 19 15
  have h3 := tc_clear_len 15 15
  have h4 := tc_copy_len 15 y 10
  have h5 := tc_copy_len 19 z 11
  have h6 := tc_mv_len 19 10
  have h7 := tc_clear_len 10 11
  have h8 := tc_mv_len 11 15
  have h9 := tc_repl_len 15 x 12
  have a1 := tc_mv_len 10 11
  have a2 := tc_mv_len 11 13
  have a3 := tc_copy_len 13 11 14
  have a4 := tc_mv_len 19 14
  have a5 := tc_mv_len 14 13
  have a6 := tc_mv_len 13 10
  have b1 := tc_clear_len 14 14
  have b2 := tc_mv_len 13 14
  have c1 := tc_mv_len 13 12
  have c2 := tc_copy_len 12 z 11
  have c3 := tc_mv_len 19 13
  simp only [tc_quot, tc_quoM, tc_quoL, tc_quoA, tc_quoB, tc_lp_len, List.length_append, List.length_cons, List.length_nil]
  omega
theorem tc_get_len (p x y : Nat) : (tc_get p x y).length ≤ 100 := by
  have h1 := tc_copy_len p y 25
  have h2 := tc_mv_len 19 25
  have h3 := tc_repl_len 24 x 26
  simp only [tc_get, tc_out, tc_outL, tc_pick, tc_pickL, tc_back, tc_backL, tc_sh, tc_lp_len, List.length_append, List.length_cons, List.length_nil]
  omega
theorem tc_put_len (p x y : Nat) : (tc_put p x y).length ≤ 100 := by
  have h1 := tc_copy_len p x 25
  have h2 := tc_copy_len 19 y 26
  have h3 := tc_mv_len 19 25
  simp only [tc_put, tc_out, tc_outL, tc_back, tc_backL, tc_sh, tc_lp_len, List.length_append, List.length_cons, List.length_nil]
  omega
theorem tc_pl_len (k x y z p : Nat) : (tc_pl k x y z p).1.length ≤ 150 := by
  unfold tc_pl
  by_cases h0 : k = 0
  · rw [if_pos h0]
    have h1 := tc_clear_len p x
    show (tc_set p x y).length ≤ 150
    unfold tc_set
    by_cases hy : y = 0
    · rw [if_pos hy]; simp only [List.length_append, List.length_nil]; omega
    · rw [if_neg hy]; simp only [List.length_append, List.length_cons, List.length_nil]; omega
  rw [if_neg h0]
  by_cases h1 : k = 1
  · rw [if_pos h1]
    have a := tc_copy_len p y 10
    have b := tc_repl_len 19 x 10
    show (tc_copy p y 10 ++ tc_repl 19 x 10).length ≤ 150
    simp only [List.length_append]; omega
  rw [if_neg h1]
  by_cases h2 : k = 2
  · rw [if_pos h2]
    have a := tc_copy_len p y 10
    have b := tc_carry_len 19 10 x
    show (tc_copy p y 10 ++ tc_carry 19 10 x).length ≤ 150
    simp only [List.length_append]; omega
  rw [if_neg h2]
  by_cases h3 : k = 3
  · rw [if_pos h3]; exact Nat.le_trans (tc_sub_len p x y) (by decide)
  rw [if_neg h3]
  by_cases h4 : k = 4
  · rw [if_pos h4]; exact Nat.le_trans (tc_prod_len p x y z) (by decide)
  rw [if_neg h4]
  by_cases h5 : k = 5
  · rw [if_pos h5]; exact Nat.le_trans (tc_less_len p x y z) (by decide)
  rw [if_neg h5]
  by_cases h6 : k = 6
  · rw [if_pos h6]; exact Nat.le_trans (tc_same_len p x y z) (by decide)
  rw [if_neg h6]
  by_cases h7 : k = 7
  · rw [if_pos h7]; exact Nat.le_trans (tc_get_len p x y) (by decide)
  rw [if_neg h7]
  by_cases h8 : k = 8
  · rw [if_pos h8]; exact Nat.le_trans (tc_put_len p x y) (by decide)
  rw [if_neg h8]
  by_cases h9 : k = 9
  · rw [if_pos h9]
    have a := tc_mv_len p x
    show (tc_mv p x ++ [((4, 0) : tc_T)]).length ≤ 150
    simp only [List.length_append, List.length_cons, List.length_nil]; omega
  rw [if_neg h9]
  exact tc_quot_len p x y z
end
section
/-! the methods that write code: each appends its tokens -/
abbrev tc_A : Type := Nat → Int32
abbrev tc_R : Type := Int32 × Int32 × Int32 × Int32 × Int32 × tc_A × tc_A × tc_A × tc_A × tc_A × tc_A × tc_A × tc_A × tc_A × tc_A
def tc_mk (r : tc_R) (ce p ld : Int32) (o nu lo : tc_A) : SX :=
  (r.1, ce, p, ld, r.2.1, r.2.2.1, r.2.2.2.1, r.2.2.2.2.1, r.2.2.2.2.2.1, r.2.2.2.2.2.2.1, r.2.2.2.2.2.2.2.1, r.2.2.2.2.2.2.2.2.1, r.2.2.2.2.2.2.2.2.2.1, r.2.2.2.2.2.2.2.2.2.2.1, o, nu, lo, r.2.2.2.2.2.2.2.2.2.2.2.1, r.2.2.2.2.2.2.2.2.2.2.2.2.1, r.2.2.2.2.2.2.2.2.2.2.2.2.2.1, r.2.2.2.2.2.2.2.2.2.2.2.2.2.2)
/-- the state while code is written: L stands, the compiler's place is p, d loops are open, the rest is r -/
def tc_St (r : tc_R) (L : List tc_T) (p d : Nat) (u : SX) : Prop := ∃ o nu lo : tc_A, u = tc_mk r (nI L.length) (nI p) (nI d) o nu lo ∧ tc_EI L d o nu lo

theorem tc_St_mk {r : tc_R} {L : List tc_T} {n p d : Nat} {o nu lo : tc_A} (h : tc_EI L d o nu lo) (hn : L.length = n) : tc_St r L p d (tc_mk r (nI n) (nI p) (nI d) o nu lo) := ⟨o, nu, lo, by rw [hn], h⟩

/-- w appends the tokens T; the compiler's place goes from p to p', the number of open loops from d to d' -/
def tc_Em (w : (SX → Prop) → SX → Prop) (p d : Nat) (T : List tc_T) (p' d' : Nat) : Prop :=
  ∀ (r : tc_R) (L : List tc_T) (u : SX), tc_St r L p d u → L.length + T.length ≤ 2400 → ∀ post : SX → Prop,
    (∀ u' : SX, tc_St r (L ++ T) p' d' u' → post u') → w post u

theorem tc_Em.seq {w1 w2 : (SX → Prop) → SX → Prop} {p d p1 d1 p2 d2 : Nat} {T1 T2 : List tc_T} (h1 : tc_Em w1 p d T1 p1 d1) (h2 : tc_Em w2 p1 d1 T2 p2 d2) : tc_Em (fun post u => w1 (fun u' => w2 post u') u) p d (T1 ++ T2) p2 d2 := by
  intro r L u hS hl post hp
  rw [List.length_append] at hl
  refine h1 r L u hS (by omega) _ ?_
  intro u' hS'
  refine h2 r (L ++ T1) u' hS' (by rw [List.length_append]; omega) post ?_
  intro u'' hS''
  exact hp u'' (by rw [← List.append_assoc]; exact hS'')

theorem tc_Em.cv {w w' : (SX → Prop) → SX → Prop} {p d p' d' : Nat} {T T' : List tc_T} (h : tc_Em w p d T p' d') (hw : ∀ post u, w post u → w' post u) (hT : T = T') : tc_Em w' p d T' p' d' := by
  subst hT
  intro r L u hS hl post hp
  exact hw _ _ (h r L u hS hl post hp)

theorem tc_put_raw (r : tc_R) {n : Nat} {P D : Int32} {o nu lo : tc_A} {post : SX → Prop} {c k : Int32} (hn : n < 2400) (hc : c.toInt8.toInt32 = c) (hk : k.toInt16.toInt32 = k) (h : post (tc_mk r (nI (n + 1)) P D (upd o n c) (upd nu n k) lo)) : wpX_put post (tc_mk r (nI n) P D o nu lo) c k := by
  have e1 : upd o (nI n).toNatClampNeg (vp_nar .byte c.toInt8.toInt32) = upd o n c := by rw [nI_clamp (by omega), vp_nar_byte, hc, hc]
  have e2 : upd nu (nI n).toNatClampNeg (vp_nar .short k.toInt16.toInt32) = upd nu n k := by rw [nI_clamp (by omega), vp_nar_short, hk, hk]
  unfold wpX_put tc_mk
  dsimp only
  exact ⟨vp_in_nI hn (by omega), nm_r e1 ⟨vp_in_nI hn (by omega), nm_r e2 (nm_r (nI_1 n) h)⟩⟩

theorem tc_l1 (L : List tc_T) (t : tc_T) : (L ++ [t]).length = L.length + 1 := by simp

theorem tc_Em_put {c k : Int32} {p d : Nat} (h2 : c ≠ 2) (h3 : c ≠ 3) (hc : c.toInt8.toInt32 = c) (hk : k.toInt16.toInt32 = k) : tc_Em (fun post u => wpX_put post u c k) p d [(c, k)] p d := by
  intro r L u hS hl post hp
  obtain ⟨o, nu, lo, rfl, hI⟩ := hS
  simp only [List.length_cons, List.length_nil] at hl
  exact tc_put_raw r (by omega) hc hk (hp _ (tc_St_mk (tc_EI_put hI (c, k) h2 h3) (tc_l1 _ _)))

theorem tc_i16 {n : Nat} (h : n < 2400) : (nI n).toInt16.toInt32 = nI n := by
  refine lg_i2s_small ?_ ?_
  · rw [nI_toInt (by omega)]; omega
  · rw [nI_toInt (by omega)]; omega

theorem tc_Em_oh {p d : Nat} (hd : d < 16) : tc_Em (fun post u => wpX_openHere post u) p d [(2, 0)] p (d + 1) := by
  intro r L u hS hl post hp
  obtain ⟨o, nu, lo, rfl, hI⟩ := hS
  simp only [List.length_cons, List.length_nil] at hl
  have e1 : upd lo (nI d).toNatClampNeg (vp_nar .short (nI L.length).toInt16.toInt32) = upd lo d (nI L.length) := by
    rw [nI_clamp (by omega), vp_nar_short, tc_i16 (by omega), tc_i16 (by omega)]
  show wpX_openHere _ _
  unfold wpX_openHere
  exact And.intro (vp_in_nI hd (by omega)) (nm_r e1 (nm_r (nI_1 d) (tc_put_raw r (by omega) (by decide) (by decide) (hp _ (tc_St_mk (tc_EI_open hI) (tc_l1 _ _))))))

theorem tc_Em_ch {p d : Nat} (hd : d < 16) : tc_Em (fun post u => wpX_closeHere post u) p (d + 1) [(3, 0)] p d := by
  intro r L u hS hl post hp
  obtain ⟨o, nu, lo, rfl, hI⟩ := hS
  simp only [List.length_cons, List.length_nil] at hl
  obtain ⟨s, hs, hlo, hI'⟩ := tc_EI_close hI
  have e0 : lo (nI d).toNatClampNeg = nI s := by rw [nI_clamp (by omega)]; exact hlo
  have e1 : upd nu (nI s).toNatClampNeg (vp_nar .short (nI L.length).toInt16.toInt32) = upd nu s (nI L.length) := by
    rw [nI_clamp (by omega), vp_nar_short, tc_i16 (by omega), tc_i16 (by omega)]
  show wpX_closeHere _ _
  unfold wpX_closeHere
  exact nm_r (nI_pred d) (And.intro (vp_in_nI hd (by omega)) (nm_r e0 (And.intro (vp_in_nI (by omega) (by omega)) (nm_r e1 (tc_put_raw r (by omega) (by decide) (tc_i16 (by omega)) (hp _ (tc_St_mk hI' (tc_l1 _ _))))))))

theorem tc_sm {p q : Nat} (hp : p < 96) (hq : q < 96) : (nI q - nI p).toInt16.toInt32 = nI q - nI p := by
  refine lg_i2s_small ?_ ?_
  · rw [pk_sub_toInt (by omega) (by omega)]; omega
  · rw [pk_sub_toInt (by omega) (by omega)]; omega

theorem tc_Em_go {p d q : Nat} (hp : p < 96) (hq : q < 96) : tc_Em (fun post u => wpX_go post u (nI q)) p d (tc_mv p q) q d := by
  intro r L u hS hl post hpost
  obtain ⟨o, nu, lo, rfl, hI⟩ := hS
  show wpX_go _ _ _
  unfold wpX_go
  by_cases h : q = p
  · subst h
    rw [tc_mv_s, List.append_nil] at hpost
    exact br_t rfl (hpost _ (tc_St_mk hI rfl))
  · have e : tc_mv p q = [(0, nI q - nI p)] := if_neg h
    rw [e] at hpost hl
    refine br_f (fun z => h ((nI_eq (by omega) (by omega)).mp z)) ?_
    simp only [List.length_cons, List.length_nil] at hl
    exact tc_put_raw r (by omega) (by decide) (tc_sm hp hq) (hpost _ (tc_St_mk (tc_EI_put hI (0, nI q - nI p) (show (0 : Int32) ≠ 2 by decide) (show (0 : Int32) ≠ 3 by decide)) (tc_l1 _ _)))

theorem tc_Em_open {p d q : Nat} (hp : p < 96) (hq : q < 96) (hd : d < 16) : tc_Em (fun post u => wpX_open post u (nI q)) p d (tc_mv p q ++ [(2, 0)]) q (d + 1) :=
  ((tc_Em_go hp hq).seq (tc_Em_oh hd)).cv (fun _ _ h => h) rfl
theorem tc_Em_close {p d q : Nat} (hp : p < 96) (hq : q < 96) (hd : d < 16) : tc_Em (fun post u => wpX_close post u (nI q)) p (d + 1) (tc_mv p q ++ [(3, 0)]) q d :=
  ((tc_Em_go hp hq).seq (tc_Em_ch hd)).cv (fun _ _ h => h) rfl
theorem tc_Em_grow {p d q : Nat} {k : Int32} (hp : p < 96) (hq : q < 96) (hk : k.toInt16.toInt32 = k) : tc_Em (fun post u => wpX_grow post u (nI q) k) p d (tc_mv p q ++ [(1, k)]) q d :=
  ((tc_Em_go hp hq).seq (tc_Em_put (by decide) (by decide) (by decide) hk)).cv (fun _ _ h => h) rfl
theorem tc_Em_at {p d q : Nat} : tc_Em (fun post u => post (u.1, u.2.1, nI q, u.2.2.2)) p d [] q d := by
  intro r L u hS hl post hpost
  obtain ⟨o, nu, lo, rfl, hI⟩ := hS
  rw [List.append_nil] at hpost
  exact hpost _ (tc_St_mk hI rfl)
theorem tc_Em.bt {c : Prop} {A B : (SX → Prop) → SX → Prop} {p d p' d' : Nat} {T : List tc_T} (hc : c) (h : tc_Em A p d T p' d') : tc_Em (fun post u => (c → A post u) ∧ (¬ c → B post u)) p d T p' d' :=
  fun r L u hS hl post hp => br_t hc (h r L u hS hl post hp)
theorem tc_Em.bf {c : Prop} {A B : (SX → Prop) → SX → Prop} {p d p' d' : Nat} {T : List tc_T} (hc : ¬ c) (h : tc_Em B p d T p' d') : tc_Em (fun post u => (c → A post u) ∧ (¬ c → B post u)) p d T p' d' :=
  fun r L u hS hl post hp => br_f hc (h r L u hS hl post hp)
end
section
/-! the methods that write whole pieces of code -/
theorem tc_Em_clear {p d q : Nat} (hp : p < 96) (hq : q < 96) (hd : d < 16) : tc_Em (fun post u => wpX_clear post u (nI q)) p d (tc_clear p q) q d :=
  ((tc_Em_open hp hq hd).seq ((tc_Em_put (c := 1) (k := 15) (by decide) (by decide) (by decide) (by decide)).seq (tc_Em_close hq hq hd))).cv (fun _ _ h => h)
    (by simp [tc_clear, tc_lp, tc_mv_s])
theorem tc_Em_carry {p d a b : Nat} (hp : p < 96) (ha : a < 96) (hb : b < 96) (hd : d < 16) : tc_Em (fun post u => wpX_carry post u (nI a) (nI b)) p d (tc_carry p a b) a d :=
  ((tc_Em_open hp ha hd).seq ((tc_Em_grow (k := 15) ha ha (by decide)).seq ((tc_Em_grow (k := 1) ha hb (by decide)).seq (tc_Em_close hb ha hd)))).cv (fun _ _ h => h)
    (by simp [tc_carry, tc_lp, tc_mv_s])
theorem tc_Em_copy {p d a b : Nat} (hp : p < 96) (ha : a < 96) (hb : b < 96) (hd : d < 16) : tc_Em (fun post u => wpX_copy post u (nI a) (nI b)) p d (tc_copy p a b) 19 d :=
  ((tc_Em_open hp ha hd).seq ((tc_Em_grow (k := 15) ha ha (by decide)).seq ((tc_Em_grow (k := 1) ha hb (by decide)).seq ((tc_Em_grow (k := 1) hb (q := 19) (by decide) (by decide)).seq ((tc_Em_close (p := 19) (by decide) ha hd).seq (tc_Em_carry (a := 19) ha (by decide) ha hd)))))).cv (fun _ _ h => h)
    (by simp [tc_copy, tc_lp, tc_mv_s])
theorem tc_Em_repl {p d x b : Nat} (hp : p < 96) (hx : x < 96) (hb : b < 96) (hd : d < 16) : tc_Em (fun post u => wpX_replace post u (nI x) (nI b)) p d (tc_repl p x b) b d :=
  ((tc_Em_clear hp hx hd).seq (tc_Em_carry hx hb hx hd)).cv (fun _ _ h => h) rfl
theorem tc_Em_prod {p d x y z : Nat} (hp : p < 96) (hx : x < 96) (hy : y < 96) (hz : z < 96) (hd : d < 15) : tc_Em (fun post u => wpX_compileProduct post u (nI x) (nI y) (nI z)) p d (tc_prod p x y z) 12 d :=
  ((tc_Em_copy (b := 10) hp hy (by decide) (by omega)).seq ((tc_Em_copy (p := 19) (b := 11) (by decide) hz (by decide) (by omega)).seq
    ((tc_Em_open (p := 19) (q := 10) (by decide) (by decide) (by omega)).seq ((tc_Em_grow (p := 10) (q := 10) (k := 15) (by decide) (by decide) (by decide)).seq
    ((tc_Em_copy (p := 10) (a := 11) (b := 12) (by decide) (by decide) (by decide) (by omega)).seq ((tc_Em_close (p := 19) (q := 10) (by decide) (by decide) (by omega)).seq
    ((tc_Em_clear (p := 10) (q := 11) (by decide) (by decide) (by omega)).seq (tc_Em_repl (p := 11) (b := 12) (by decide) hx (by decide) (by omega))))))))).cv (fun _ _ h => h)
    (by simp [tc_prod, tc_lp, tc_mv_s])
theorem tc_Em_ifn {p d a : Nat} (hp : p < 96) (ha : a < 96) (hd : d < 15) : tc_Em (fun post u => wpX_openIfNot post u (nI a)) p d (tc_mv p 13 ++ [(1, 1)] ++ tc_copy 13 a 14 ++ tc_mv 19 14 ++ [(2, 0)] ++ tc_clear 14 14 ++ tc_mv 14 13 ++ [(1, 15)]) 13 (d + 1) :=
  ((tc_Em_grow (q := 13) (k := 1) hp (by decide) (by decide)).seq ((tc_Em_copy (p := 13) (b := 14) (by decide) ha (by decide) (by omega)).seq ((tc_Em_open (p := 19) (q := 14) (by decide) (by decide) (by omega)).seq
    ((tc_Em_clear (p := 14) (q := 14) (by decide) (by decide) (by omega)).seq (tc_Em_grow (p := 14) (q := 13) (k := 15) (by decide) (by decide) (by decide)))))).cv (fun _ _ h => h)
    (by simp)
theorem tc_Em_less {p d x y z : Nat} (hp : p < 96) (hx : x < 96) (hy : y < 96) (hz : z < 96) (hd : d < 13) : tc_Em (fun post u => wpX_compileLess post u (nI x) (nI y) (nI z)) p d (tc_less p x y z) 12 d :=
  ((tc_Em_copy (b := 10) hp hy (by decide) (by omega)).seq ((tc_Em_copy (p := 19) (b := 11) (by decide) hz (by decide) (by omega)).seq
    ((tc_Em_open (p := 19) (q := 11) (by decide) (by decide) (by omega)).seq ((tc_Em_grow (p := 11) (q := 11) (k := 15) (by decide) (by decide) (by decide)).seq
    ((tc_Em_ifn (p := 11) (a := 10) (by decide) (by decide) (by omega)).seq ((tc_Em_grow (p := 13) (q := 10) (k := 15) (by decide) (by decide) (by decide)).seq
    ((tc_Em_close (p := 10) (q := 14) (by decide) (by decide) (by omega)).seq ((tc_Em_open (p := 14) (q := 13) (by decide) (by decide) (by omega)).seq
    ((tc_Em_grow (p := 13) (q := 13) (k := 15) (by decide) (by decide) (by decide)).seq ((tc_Em_grow (p := 13) (q := 12) (k := 1) (by decide) (by decide) (by decide)).seq
    ((tc_Em_clear (p := 12) (q := 11) (by decide) (by decide) (by omega)).seq ((tc_Em_close (p := 11) (q := 13) (by decide) (by decide) (by omega)).seq
    ((tc_Em_close (p := 13) (q := 11) (by decide) (by decide) (by omega)).seq ((tc_Em_clear (p := 11) (q := 10) (by decide) (by decide) (by omega)).seq
    (tc_Em_repl (p := 10) (b := 12) (by decide) hx (by decide) (by omega)))))))))))))))).cv (fun _ _ h => h)
    (by simp [tc_less, tc_lessL, tc_lessA, tc_lessB, tc_lp, tc_mv_s])
theorem tc_Em_diff {p d y z : Nat} (hp : p < 96) (hy : y < 96) (hz : z < 96) (hd : d < 15) : tc_Em (fun post u => wpX_compileDifference post u (nI y) (nI z)) p d (tc_diff p y z) 11 d :=
  ((tc_Em_copy (b := 10) hp hy (by decide) (by omega)).seq ((tc_Em_copy (p := 19) (b := 11) (by decide) hz (by decide) (by omega)).seq
    ((tc_Em_open (p := 19) (q := 11) (by decide) (by decide) (by omega)).seq ((tc_Em_grow (p := 11) (q := 11) (k := 15) (by decide) (by decide) (by decide)).seq
    ((tc_Em_grow (p := 11) (q := 10) (k := 15) (by decide) (by decide) (by decide)).seq (tc_Em_close (p := 10) (q := 11) (by decide) (by decide) (by omega))))))).cv (fun _ _ h => h)
    (by simp [tc_diff, tc_lp, tc_mv_s])
theorem tc_Em_quot {p d x y z : Nat} (hp : p < 96) (hx : x < 96) (hy : y < 96) (hz : z < 96) (hd : d < 12) : tc_Em (fun post u => wpX_compileQuotient post u (nI x) (nI y) (nI z)) p d (tc_quot p x y z) 12 d :=
  ((tc_Em_copy (b := 15) hp hz (by decide) (by omega)).seq ((tc_Em_open (p := 19) (q := 15) (by decide) (by decide) (by omega)).seq ((tc_Em_clear (p := 15) (q := 15) (by decide) (by decide) (by omega)).seq
    ((tc_Em_copy (p := 15) (b := 10) (by decide) hy (by decide) (by omega)).seq ((tc_Em_copy (p := 19) (b := 11) (by decide) hz (by decide) (by omega)).seq
    ((tc_Em_open (p := 19) (q := 10) (by decide) (by decide) (by omega)).seq ((tc_Em_grow (p := 10) (q := 10) (k := 15) (by decide) (by decide) (by decide)).seq
    ((tc_Em_grow (p := 10) (q := 11) (k := 15) (by decide) (by decide) (by decide)).seq ((tc_Em_ifn (p := 11) (a := 11) (by decide) (by decide) (by omega)).seq
    ((tc_Em_close (p := 13) (q := 14) (by decide) (by decide) (by omega)).seq ((tc_Em_open (p := 14) (q := 13) (by decide) (by decide) (by omega)).seq
    ((tc_Em_grow (p := 13) (q := 13) (k := 15) (by decide) (by decide) (by decide)).seq ((tc_Em_grow (p := 13) (q := 12) (k := 1) (by decide) (by decide) (by decide)).seq
    ((tc_Em_copy (p := 12) (b := 11) (by decide) hz (by decide) (by omega)).seq ((tc_Em_close (p := 19) (q := 13) (by decide) (by decide) (by omega)).seq
    ((tc_Em_close (p := 13) (q := 10) (by decide) (by decide) (by omega)).seq ((tc_Em_clear (p := 10) (q := 11) (by decide) (by decide) (by omega)).seq
    ((tc_Em_close (p := 11) (q := 15) (by decide) (by decide) (by omega)).seq (tc_Em_repl (p := 15) (b := 12) (by decide) hx (by decide) (by omega)))))))))))))))))))).cv (fun _ _ h => h)
    (by simp [tc_quot, tc_quoM, tc_quoL, tc_quoA, tc_quoB, tc_lp, tc_mv_s])
theorem tc_Em_pm {k : Int32} {p d : Nat} (hk : k.toInt16.toInt32 = k) : tc_Em (fun post u => wpX_put post u 0 k) p d [(0, k)] p d := tc_Em_put (by decide) (by decide) (by decide) hk
theorem tc_Em_pa {k : Int32} {p d : Nat} (hk : k.toInt16.toInt32 = k) : tc_Em (fun post u => wpX_put post u 1 k) p d [(1, k)] p d := tc_Em_put (by decide) (by decide) (by decide) hk
theorem tc_Em_sh {k : Int32} {p d : Nat} (hk : k.toInt16.toInt32 = k) (hk' : (-k).toInt16.toInt32 = -k) (hd : d < 16) : tc_Em (fun post u => wpX_shift post u k) p d (tc_sh k) p d :=
  ((tc_Em_oh hd).seq ((tc_Em_pa (k := 15) (by decide)).seq ((tc_Em_pm hk).seq ((tc_Em_pa (k := 1) (by decide)).seq ((tc_Em_pm hk').seq (tc_Em_ch hd)))))).cv (fun _ _ h => h)
    (by simp [tc_sh, tc_lp])
theorem tc_Em_out {p d : Nat} (hd : d < 15) : tc_Em (fun post u => wpX_walkOut post u) p d tc_out p d :=
  ((tc_Em_oh (by omega)).seq ((tc_Em_pa (k := 15) (by decide)).seq ((tc_Em_sh (k := 4) (by decide) (by decide) (by omega)).seq ((tc_Em_pm (k := 1) (by decide)).seq ((tc_Em_sh (k := 4) (by decide) (by decide) (by omega)).seq
    ((tc_Em_pm (k := 2) (by decide)).seq ((tc_Em_pa (k := 1) (by decide)).seq ((tc_Em_pm (k := 1) (by decide)).seq (tc_Em_ch (by omega)))))))))).cv (fun _ _ h => h)
    (by simp [tc_out, tc_outL, tc_lp])
theorem tc_Em_pick {p d : Nat} (hd : d < 16) : tc_Em (fun post u => wpX_pickUp post u) p d tc_pick p d :=
  ((tc_Em_pm (k := 2) (by decide)).seq ((tc_Em_oh (by omega)).seq ((tc_Em_pa (k := 15) (by decide)).seq ((tc_Em_pm (k := -1) (by decide)).seq ((tc_Em_pa (k := 1) (by decide)).seq
    ((tc_Em_pm (k := -1) (by decide)).seq ((tc_Em_pa (k := 1) (by decide)).seq ((tc_Em_pm (k := 2) (by decide)).seq ((tc_Em_ch (by omega)).seq ((tc_Em_pm (k := -2) (by decide)).seq
    (tc_Em_sh (k := 2) (by decide) (by decide) (by omega)))))))))))).cv (fun _ _ h => h)
    (by simp [tc_pick, tc_pickL, tc_lp])
theorem tc_Em_back {p d : Nat} (hd : d < 15) : tc_Em (fun post u => wpX_walkBack post u) p d tc_back p d :=
  ((tc_Em_pm (k := -1) (by decide)).seq ((tc_Em_oh (by omega)).seq ((tc_Em_pa (k := 15) (by decide)).seq ((tc_Em_pm (k := 2) (by decide)).seq ((tc_Em_sh (k := -4) (by decide) (by decide) (by omega)).seq
    ((tc_Em_pm (k := -6) (by decide)).seq (tc_Em_ch (by omega)))))))).cv (fun _ _ h => h)
    (by simp [tc_back, tc_backL, tc_lp])
end
section
/-! the machine by its rules; a list of tokens takes a state to a state -/
def tc_fu (t : Nat → Fin 16) (k : Nat) (v : Fin 16) : Nat → Fin 16 := fun j => if j = k then v else t j
abbrev tc_Q : Type := Nat × (Nat → Int32)
abbrev tc_S : Type := Nat × (Nat → Fin 16) × tc_Q
def tc_pr (q : tc_Q) (v : Fin 16) : tc_Q := (q.1 + 1, if q.1 < 40 then upd q.2 q.1 (nI v.val) else q.2)

def tc_VM (o nu : Nat → Int32) (ce : Nat) (K : Nat → tc_S → Prop) : Prop :=
  (∀ (i p p' : Nat) (t : Nat → Fin 16) (q : tc_Q), i < ce → o i = 0 → nI p + nu i = nI p' → K (i + 1) (p', t, q) → K i (p, t, q)) ∧
  (∀ (i p : Nat) (t : Nat → Fin 16) (q : tc_Q) (c : Fin 16), i < ce → o i = 1 → nu i = nI c.val → p < 96 → K (i + 1) (p, tc_fu t p (t p + c), q) → K i (p, t, q)) ∧
  (∀ (i p : Nat) (t : Nat → Fin 16) (q : tc_Q), i < ce → o i = 4 → p < 96 → q.1 < 100000 → K (i + 1) (p, t, tc_pr q (t p)) → K i (p, t, q)) ∧
  (∀ (j k p : Nat) (t : Nat → Fin 16) (q : tc_Q), tc_mt o nu j k → k < ce → p < 96 → t p = 0 → K (k + 1) (p, t, q) → K j (p, t, q)) ∧
  (∀ (j k p : Nat) (t : Nat → Fin 16) (q : tc_Q), tc_mt o nu j k → k < ce → p < 96 → ¬ t p = 0 → k ≠ j + 2 → K (j + 1) (p, t, q) → K j (p, t, q)) ∧
  (∀ (j p : Nat) (t : Nat → Fin 16) (q : tc_Q), tc_mt o nu j (j + 2) → j + 2 < ce → p < 96 → o (j + 1) = 1 → nu (j + 1) = 15 → K (j + 3) (p, tc_fu t p 0, q) → K j (p, t, q)) ∧
  (∀ (j k p : Nat) (t : Nat → Fin 16) (q : tc_Q), tc_mt o nu j k → k < ce → p < 96 → t p = 0 → K (k + 1) (p, t, q) → K k (p, t, q)) ∧
  (∀ (j k p : Nat) (t : Nat → Fin 16) (q : tc_Q), tc_mt o nu j k → k < ce → p < 96 → ¬ t p = 0 → K (j + 1) (p, t, q) → K k (p, t, q))
def tc_MA (o nu : Nat → Int32) (ce : Nat) : Prop := ∀ j, j < ce → o j = 2 → ∃ k, k < ce ∧ tc_mt o nu j k

def tc_Ex (L : List tc_T) (s s' : tc_S) : Prop :=
  ∀ (o nu : Nat → Int32) (ce : Nat) (K : Nat → tc_S → Prop), tc_VM o nu ce K → tc_MA o nu ce → ∀ a, a + L.length ≤ ce → tc_lay o nu a L → K (a + L.length) s' → K a s

theorem tc_Ex_nil (s : tc_S) : tc_Ex [] s s := fun _ _ _ _ _ _ _ _ _ h => h
theorem tc_Ex.app {L1 L2 : List tc_T} {s s1 s2 : tc_S} (h1 : tc_Ex L1 s s1) (h2 : tc_Ex L2 s1 s2) : tc_Ex (L1 ++ L2) s s2 := by
  intro o nu ce K hV hM a hl hy hK
  rw [List.length_append] at hl hK
  rw [tc_lay_app] at hy
  refine h1 o nu ce K hV hM a (by omega) hy.1 (h2 o nu ce K hV hM _ (by omega) hy.2 ?_)
  rw [Nat.add_assoc]; exact hK
theorem tc_Ex.cv {L : List tc_T} {s s1 s2 : tc_S} (h : tc_Ex L s s1) (e : s1 = s2) : tc_Ex L s s2 := by
  subst e; exact h
/-- the last tape in another form -/
theorem tc_Ex.ct {L : List tc_T} {s : tc_S} {p : Nat} {t t' : Nat → Fin 16} {q : tc_Q} (h : tc_Ex L s (p, t, q)) (e : t = t') : tc_Ex L s (p, t', q) := by
  subst e; exact h
theorem tc_Ex_m1 {p p' : Nat} {k : Int32} {t : Nat → Fin 16} {q : tc_Q} (h : nI p + k = nI p') : tc_Ex [(0, k)] (p, t, q) (p', t, q) := by
  intro o nu ce K hV hM a hl hy hK
  rw [tc_lay_one] at hy
  simp only [List.length_cons, List.length_nil] at hl hK
  exact hV.1 a p p' t q (by omega) hy.1 (by rw [hy.2 (show (0 : Int32) ≠ 2 by decide) (show (0 : Int32) ≠ 3 by decide)]; exact h) hK
theorem tc_Ex_mv {p p' : Nat} {t : Nat → Fin 16} {q : tc_Q} : tc_Ex (tc_mv p p') (p, t, q) (p', t, q) := by
  unfold tc_mv
  by_cases h : p' = p
  · rw [if_pos h, h]; exact tc_Ex_nil _
  · rw [if_neg h]; exact tc_Ex_m1 (by rw [Int32.add_comm, Int32.sub_add_cancel])
theorem tc_Ex_ad {p : Nat} {k : Int32} {c : Fin 16} {t : Nat → Fin 16} {q : tc_Q} (hp : p < 96) (hk : k = nI c.val) : tc_Ex [(1, k)] (p, t, q) (p, tc_fu t p (t p + c), q) := by
  intro o nu ce K hV hM a hl hy hK
  rw [tc_lay_one] at hy
  simp only [List.length_cons, List.length_nil] at hl hK
  exact hV.2.1 a p t q c (by omega) hy.1 (by rw [hy.2 (show (1 : Int32) ≠ 2 by decide) (show (1 : Int32) ≠ 3 by decide)]; exact hk) hp hK
theorem tc_Ex_dn {p : Nat} {t : Nat → Fin 16} {q : tc_Q} (hp : p < 96) : tc_Ex [(1, 15)] (p, t, q) (p, tc_fu t p (t p + 15), q) := tc_Ex_ad hp (by decide)
theorem tc_Ex_up {p : Nat} {t : Nat → Fin 16} {q : tc_Q} (hp : p < 96) : tc_Ex [(1, 1)] (p, t, q) (p, tc_fu t p (t p + 1), q) := tc_Ex_ad hp (by decide)
theorem tc_Ex_pr {p : Nat} {t : Nat → Fin 16} {q : tc_Q} (hp : p < 96) (hq : q.1 < 100000) : tc_Ex [(4, 0)] (p, t, q) (p, t, tc_pr q (t p)) := by
  intro o nu ce K hV hM a hl hy hK
  rw [tc_lay_one] at hy
  simp only [List.length_cons, List.length_nil] at hl hK
  exact hV.2.2.1 a p t q (by omega) hy.1 hp hq hK

/-- as many closing as opening brackets, and never more of them -/
def tc_bl (L : List tc_T) : Prop := ∀ (o nu : Nat → Int32) (a : Nat), tc_lay o nu a L → tc_hz o (a + L.length) = tc_hz o a ∧ ∀ j, j ≤ L.length → tc_hz o a ≤ tc_hz o (a + j)
theorem tc_bl_nil : tc_bl [] := by
  intro o nu a _
  refine ⟨rfl, fun j hj => ?_⟩
  have : j = 0 := by simpa using hj
  subst this
  exact Int.le_refl _
theorem tc_bl.app {L1 L2 : List tc_T} (h1 : tc_bl L1) (h2 : tc_bl L2) : tc_bl (L1 ++ L2) := by
  intro o nu a h
  rw [tc_lay_app] at h
  obtain ⟨e1, f1⟩ := h1 o nu a h.1
  obtain ⟨e2, f2⟩ := h2 o nu _ h.2
  rw [List.length_append]
  refine ⟨by rw [← Nat.add_assoc]; omega, fun j hj => ?_⟩
  by_cases hj1 : j ≤ L1.length
  · exact f1 j hj1
  · have := f2 (j - L1.length) (by omega)
    rw [show a + L1.length + (j - L1.length) = a + j by omega] at this
    omega
theorem tc_bl_one {t : tc_T} (h2 : t.1 ≠ 2) (h3 : t.1 ≠ 3) : tc_bl [t] := by
  intro o nu a h
  rw [tc_lay_one] at h
  have e : tc_hz o (a + 1) = tc_hz o a := tc_hz0 (by rw [h.1]; exact h2) (by rw [h.1]; exact h3)
  refine ⟨e, fun j hj => ?_⟩
  simp only [List.length_cons, List.length_nil] at hj
  by_cases hz : j = 0
  · subst hz; exact Int.le_refl _
  · have : j = 1 := by omega
    subst this
    omega
theorem tc_bl_m (k : Int32) : tc_bl [(0, k)] := tc_bl_one (show (0 : Int32) ≠ 2 by decide) (show (0 : Int32) ≠ 3 by decide)
theorem tc_bl_a (k : Int32) : tc_bl [(1, k)] := tc_bl_one (show (1 : Int32) ≠ 2 by decide) (show (1 : Int32) ≠ 3 by decide)
theorem tc_bl_p (k : Int32) : tc_bl [(4, k)] := tc_bl_one (show (4 : Int32) ≠ 2 by decide) (show (4 : Int32) ≠ 3 by decide)
theorem tc_bl_mv (p q : Nat) : tc_bl (tc_mv p q) := by
  unfold tc_mv
  by_cases h : q = p
  · rw [if_pos h]; exact tc_bl_nil
  · rw [if_neg h]; exact tc_bl_m _
theorem tc_lp_lay {o nu : Nat → Int32} {a : Nat} {B : List tc_T} (h : tc_lay o nu a (tc_lp B)) : o a = 2 ∧ tc_lay o nu (a + 1) B ∧ o (a + 1 + B.length) = 3 := by
  unfold tc_lp at h
  rw [tc_lay_app, tc_lay_app, tc_lay_one, tc_lay_one] at h
  refine ⟨h.1.1.1, h.1.2, ?_⟩
  have := h.2.1
  rw [List.length_append, ← Nat.add_assoc] at this
  exact this
theorem tc_bl_lp {B : List tc_T} (hB : tc_bl B) : tc_bl (tc_lp B) := by
  intro o nu a h
  obtain ⟨h1, h2, h3⟩ := tc_lp_lay h
  obtain ⟨e, f⟩ := hB o nu _ h2
  have z1 := tc_hz2 h1
  have z3 := tc_hz3 h3
  rw [tc_lp_len]
  have e2 : tc_hz o (a + (B.length + 2)) = tc_hz o a := by
    rw [show a + (B.length + 2) = a + 1 + B.length + 1 by omega, z3, e, z1]; omega
  refine ⟨e2, fun j hj => ?_⟩
  by_cases j0 : j = 0
  · subst j0; exact Int.le_refl _
  · by_cases j2 : j = B.length + 2
    · rw [j2, e2]; exact Int.le_refl _
    · have := f (j - 1) (by omega)
      rw [show a + 1 + (j - 1) = a + j by omega] at this
      omega
theorem tc_lp_mt {o nu : Nat → Int32} {ce a : Nat} {B : List tc_T} (hM : tc_MA o nu ce) (hB : tc_bl B) (hl : a + (tc_lp B).length ≤ ce) (h : tc_lay o nu a (tc_lp B)) : tc_mt o nu a (a + B.length + 1) := by
  obtain ⟨h1, h2, h3⟩ := tc_lp_lay h
  obtain ⟨e, f⟩ := hB o nu _ h2
  have z1 := tc_hz2 h1
  have z3 := tc_hz3 h3
  rw [tc_lp_len] at hl
  obtain ⟨k, hk, hmt⟩ := hM a (by omega) h1
  have hmt' := hmt
  obtain ⟨m1, m2, m3, m4, m5, m6, m7⟩ := hmt
  have : k = a + B.length + 1 := by
    by_cases c1 : k < a + B.length + 1
    · have := f (k + 1 - (a + 1)) (by omega)
      rw [show a + 1 + (k + 1 - (a + 1)) = k + 1 by omega] at this
      omega
    · by_cases c2 : a + B.length + 1 < k
      · have := m7 (a + 1 + B.length + 1) (by omega) (by omega)
        omega
      · omega
  rw [← this]
  exact hmt'

theorem tc_Ex_cl {p : Nat} {t : Nat → Fin 16} {q : tc_Q} (hp : p < 96) : tc_Ex (tc_lp [(1, 15)]) (p, t, q) (p, tc_fu t p 0, q) := by
  intro o nu ce K hV hM a hl hy hK
  have hm := tc_lp_mt hM (tc_bl_a 15) hl hy
  obtain ⟨h1, h2, h3⟩ := tc_lp_lay hy
  rw [tc_lay_one] at h2
  rw [tc_lp_len] at hl
  simp only [List.length_cons, List.length_nil] at hl hm
  exact hV.2.2.2.2.2.1 a p t q hm (by omega) hp h2.1 (h2.2 (show (1 : Int32) ≠ 2 by decide) (show (1 : Int32) ≠ 3 by decide)) hK

/-- a loop from its head and from its end -/
def tc_Lq (B : List tc_T) (s s' : tc_S) : Prop := tc_Ex (tc_lp B) s s' ∧
  ∀ (o nu : Nat → Int32) (ce : Nat) (K : Nat → tc_S → Prop), tc_VM o nu ce K → tc_MA o nu ce → ∀ a, a + (tc_lp B).length ≤ ce → tc_lay o nu a (tc_lp B) → K (a + B.length + 2) s' → K (a + B.length + 1) s
theorem tc_Lq_0 {B : List tc_T} {p : Nat} {t : Nat → Fin 16} {q : tc_Q} (hB : tc_bl B) (hp : p < 96) (h : t p = 0) : tc_Lq B (p, t, q) (p, t, q) := by
  refine ⟨?_, ?_⟩
  · intro o nu ce K hV hM a hl hy hK
    have hm := tc_lp_mt hM hB hl hy
    rw [tc_lp_len] at hl hK
    exact hV.2.2.2.1 a _ p t q hm (by omega) hp h hK
  · intro o nu ce K hV hM a hl hy hK
    have hm := tc_lp_mt hM hB hl hy
    rw [tc_lp_len] at hl
    exact hV.2.2.2.2.2.2.1 a _ p t q hm (by omega) hp h hK
theorem tc_Lq_1 {B : List tc_T} {p : Nat} {t : Nat → Fin 16} {q : tc_Q} {s1 s2 : tc_S} (hB : tc_bl B) (hn : B.length ≠ 1) (hp : p < 96) (h : ¬ t p = 0) (h1 : tc_Ex B (p, t, q) s1) (h2 : tc_Lq B s1 s2) : tc_Lq B (p, t, q) s2 := by
  refine ⟨?_, ?_⟩
  · intro o nu ce K hV hM a hl hy hK
    have hm := tc_lp_mt hM hB hl hy
    have hy' := tc_lp_lay hy
    have hK2 := h2.2 o nu ce K hV hM a hl hy (by rw [tc_lp_len] at hK; exact hK)
    rw [tc_lp_len] at hl
    refine hV.2.2.2.2.1 a _ p t q hm (by omega) hp h (by omega) ?_
    refine h1 o nu ce K hV hM (a + 1) (by omega) hy'.2.1 ?_
    rw [show a + 1 + B.length = a + B.length + 1 by omega]
    exact hK2
  · intro o nu ce K hV hM a hl hy hK
    have hm := tc_lp_mt hM hB hl hy
    have hy' := tc_lp_lay hy
    have hK2 := h2.2 o nu ce K hV hM a hl hy hK
    rw [tc_lp_len] at hl
    refine hV.2.2.2.2.2.2.2 a _ p t q hm (by omega) hp h ?_
    refine h1 o nu ce K hV hM (a + 1) (by omega) hy'.2.1 ?_
    rw [show a + 1 + B.length = a + B.length + 1 by omega]
    exact hK2
theorem tc_Lq.ct {B : List tc_T} {s : tc_S} {p : Nat} {t t' : Nat → Fin 16} {q : tc_Q} (h : tc_Lq B s (p, t, q)) (e : t = t') : tc_Lq B s (p, t', q) := by
  subst e; exact h
end
section
/-! carrying, copying, clearing, and the plain statements without elements -/
theorem tc_dec {x : Fin 16} {n : Nat} (h : x.val = n + 1) : (x + 15).val = n := by
  rw [Fin.val_add]
  have := x.isLt
  show (x.val + 15) % 16 = n
  omega
theorem tc_z {x : Fin 16} (h : x.val = 0) : x = 0 := Fin.ext h
theorem tc_nz {x : Fin 16} {n : Nat} (h : x.val = n + 1) : ¬ x = 0 := by
  intro z
  rw [z] at h
  exact absurd h (by simp)

theorem tc_Lq_carry {M1 M2 : List tc_T} {a b : Nat} {q : tc_Q} (hab : a ≠ b) (ha : a < 96) (hb : b < 96) (m1 : ∀ t, tc_Ex M1 (a, t, q) (b, t, q)) (m2 : ∀ t, tc_Ex M2 (b, t, q) (a, t, q)) (b1 : tc_bl M1) (b2 : tc_bl M2) : ∀ (n : Nat) (t : Nat → Fin 16), (t a).val = n → tc_Lq ([(1, 15)] ++ M1 ++ [(1, 1)] ++ M2) (a, t, q) (a, tc_fu (tc_fu t b (t b + t a)) a 0, q) := by
  have hB : tc_bl ([(1, 15)] ++ M1 ++ [(1, 1)] ++ M2) := (((tc_bl_a 15).app b1).app (tc_bl_a 1)).app b2
  intro n
  induction n with
  | zero =>
    intro t ht
    have h0 := tc_z ht
    exact (tc_Lq_0 hB ha h0).ct (by funext j; grind [tc_fu])
  | succ n ih =>
    intro t ht
    refine tc_Lq_1 hB (by simp) ha (tc_nz ht) ((((tc_Ex_dn ha).app (m1 _)).app (tc_Ex_up hb)).app (m2 _)) ?_
    refine (ih _ ?_).ct ?_
    · have := tc_dec ht
      grind [tc_fu]
    · funext j; grind [tc_fu]

theorem tc_Lq_copy {a b : Nat} {q : tc_Q} (hab : a ≠ b) (ha9 : a ≠ 19) (hb9 : b ≠ 19) (ha : a < 96) (hb : b < 96) : ∀ (n : Nat) (t : Nat → Fin 16), (t a).val = n → tc_Lq ([(1, 15)] ++ tc_mv a b ++ [(1, 1)] ++ tc_mv b 19 ++ [(1, 1)] ++ tc_mv 19 a) (a, t, q) (a, tc_fu (tc_fu (tc_fu t b (t b + t a)) 19 (t 19 + t a)) a 0, q) := by
  have hB : tc_bl ([(1, 15)] ++ tc_mv a b ++ [(1, 1)] ++ tc_mv b 19 ++ [(1, 1)] ++ tc_mv 19 a) := (((((tc_bl_a 15).app (tc_bl_mv _ _)).app (tc_bl_a 1)).app (tc_bl_mv _ _)).app (tc_bl_a 1)).app (tc_bl_mv _ _)
  intro n
  induction n with
  | zero =>
    intro t ht
    have h0 := tc_z ht
    exact (tc_Lq_0 hB ha h0).ct (by funext j; grind [tc_fu])
  | succ n ih =>
    intro t ht
    refine tc_Lq_1 hB (by simp) ha (tc_nz ht) ((((((tc_Ex_dn ha).app tc_Ex_mv).app (tc_Ex_up hb)).app tc_Ex_mv).app (tc_Ex_up (by decide))).app tc_Ex_mv) ?_
    refine (ih _ ?_).ct ?_
    · have := tc_dec ht
      grind [tc_fu]
    · funext j; grind [tc_fu]

theorem tc_Ex_carry {p a b : Nat} {t : Nat → Fin 16} {q : tc_Q} (hab : a ≠ b) (ha : a < 96) (hb : b < 96) : tc_Ex (tc_carry p a b) (p, t, q) (a, tc_fu (tc_fu t b (t b + t a)) a 0, q) :=
  tc_Ex_mv.app (tc_Lq_carry hab ha hb (fun _ => tc_Ex_mv) (fun _ => tc_Ex_mv) (tc_bl_mv _ _) (tc_bl_mv _ _) _ t rfl).1
theorem tc_Ex_copy {p a b : Nat} {t : Nat → Fin 16} {q : tc_Q} (hab : a ≠ b) (ha9 : a ≠ 19) (hb9 : b ≠ 19) (ha : a < 96) (hb : b < 96) (h : t 19 = 0) : tc_Ex (tc_copy p a b) (p, t, q) (19, tc_fu t b (t b + t a), q) :=
  ((tc_Ex_mv.app (tc_Lq_copy hab ha9 hb9 ha hb _ t rfl).1).app (tc_Ex_carry (Ne.symm ha9) (by decide) ha)).ct (by funext j; grind [tc_fu])
theorem tc_Ex_clear {p a : Nat} {t : Nat → Fin 16} {q : tc_Q} (ha : a < 96) : tc_Ex (tc_clear p a) (p, t, q) (a, tc_fu t a 0, q) := tc_Ex_mv.app (tc_Ex_cl ha)
theorem tc_Ex_repl {p x b : Nat} {t : Nat → Fin 16} {q : tc_Q} (hxb : x ≠ b) (hx : x < 96) (hb : b < 96) : tc_Ex (tc_repl p x b) (p, t, q) (b, tc_fu (tc_fu t x (t b)) b 0, q) :=
  ((tc_Ex_clear hx).app (tc_Ex_carry (Ne.symm hxb) hb hx)).ct (by funext j; grind [tc_fu])

theorem tc_bl_carry (p a b : Nat) : tc_bl (tc_carry p a b) := (tc_bl_mv _ _).app (tc_bl_lp ((((tc_bl_a 15).app (tc_bl_mv _ _)).app (tc_bl_a 1)).app (tc_bl_mv _ _)))
theorem tc_bl_copy (p a b : Nat) : tc_bl (tc_copy p a b) := ((tc_bl_mv _ _).app (tc_bl_lp ((((((tc_bl_a 15).app (tc_bl_mv _ _)).app (tc_bl_a 1)).app (tc_bl_mv _ _)).app (tc_bl_a 1)).app (tc_bl_mv _ _)))).app (tc_bl_carry _ _ _)
theorem tc_bl_clear (p a : Nat) : tc_bl (tc_clear p a) := (tc_bl_mv _ _).app (tc_bl_lp (tc_bl_a 15))
theorem tc_bl_repl (p x b : Nat) : tc_bl (tc_repl p x b) := (tc_bl_clear _ _).app (tc_bl_carry _ _ _)

/-- counting one number down and another with it -/
theorem tc_Lq_sub {c x : Nat} {q : tc_Q} (hcx : c ≠ x) (hc : c < 96) (hx : x < 96) : ∀ (n : Nat) (t : Nat → Fin 16), (t c).val = n → tc_Lq ([(1, 15)] ++ tc_mv c x ++ [(1, 15)] ++ tc_mv x c) (c, t, q) (c, tc_fu (tc_fu t x (t x - t c)) c 0, q) := by
  have hB : tc_bl ([(1, 15)] ++ tc_mv c x ++ [(1, 15)] ++ tc_mv x c) := (((tc_bl_a 15).app (tc_bl_mv _ _)).app (tc_bl_a 15)).app (tc_bl_mv _ _)
  intro n
  induction n with
  | zero =>
    intro t ht
    have h0 := tc_z ht
    exact (tc_Lq_0 hB hc h0).ct (by funext j; grind [tc_fu])
  | succ n ih =>
    intro t ht
    refine tc_Lq_1 hB (by simp) hc (tc_nz ht) ((((tc_Ex_dn hc).app tc_Ex_mv).app (tc_Ex_dn hx)).app tc_Ex_mv) ?_
    refine (ih _ ?_).ct ?_
    · have := tc_dec ht
      grind [tc_fu]
    · funext j; grind [tc_fu]

/-- the numbers for work are 0 -/
def tc_Zw (t : Nat → Fin 16) : Prop := t 10 = 0 ∧ t 11 = 0 ∧ t 12 = 0 ∧ t 13 = 0 ∧ t 14 = 0 ∧ t 15 = 0 ∧ t 19 = 0

theorem tc_Ex_cpy {p x y : Nat} {t : Nat → Fin 16} {q : tc_Q} (hx : x < 6) (hy : y < 6) (hz : tc_Zw t) : tc_Ex (tc_copy p y 10 ++ tc_repl 19 x 10) (p, t, q) (10, tc_fu t x (t y), q) := by
  obtain ⟨z0, z1, z2, z3, z4, z5, z9⟩ := hz
  exact ((tc_Ex_copy (by omega) (by omega) (by omega) (by omega) (by omega) z9).app (tc_Ex_repl (by omega) (by omega) (by omega))).ct (by funext j; grind [tc_fu])
theorem tc_Ex_add {p x y : Nat} {t : Nat → Fin 16} {q : tc_Q} (hx : x < 6) (hy : y < 6) (hz : tc_Zw t) : tc_Ex (tc_copy p y 10 ++ tc_carry 19 10 x) (p, t, q) (10, tc_fu t x (t x + t y), q) := by
  obtain ⟨z0, z1, z2, z3, z4, z5, z9⟩ := hz
  exact ((tc_Ex_copy (by omega) (by omega) (by omega) (by omega) (by omega) z9).app (tc_Ex_carry (by omega) (by omega) (by omega))).ct (by funext j; grind [tc_fu])
theorem tc_Ex_sub {p x y : Nat} {t : Nat → Fin 16} {q : tc_Q} (hx : x < 6) (hy : y < 6) (hz : tc_Zw t) : tc_Ex (tc_sub p x y) (p, t, q) (10, tc_fu t x (t x - t y), q) := by
  obtain ⟨z0, z1, z2, z3, z4, z5, z9⟩ := hz
  exact (((tc_Ex_copy (by omega) (by omega) (by omega) (by omega) (by omega) z9).app tc_Ex_mv).app (tc_Lq_sub (by omega) (by omega) (by omega) _ _ rfl).1).ct (by funext j; grind [tc_fu])
theorem tc_Ex_set {p x y : Nat} {t : Nat → Fin 16} {q : tc_Q} (hx : x < 6) (hy : y < 16) : tc_Ex (tc_set p x y) (p, t, q) (x, tc_fu t x (Fin.ofNat 16 y), q) := by
  unfold tc_set
  by_cases h : y = 0
  · subst h
    rw [if_pos rfl]
    exact ((tc_Ex_clear (by omega)).app (tc_Ex_nil _)).ct rfl
  · rw [if_neg h]
    refine ((tc_Ex_clear (by omega)).app (tc_Ex_ad (c := Fin.ofNat 16 y) (by omega) ?_)).ct ?_
    · show nI y = nI (y % 16)
      rw [Nat.mod_eq_of_lt hy]
    · funext j; grind [tc_fu]

theorem tc_Lq_prod {q : tc_Q} : ∀ (n : Nat) (t : Nat → Fin 16), (t 10).val = n → t 19 = 0 → tc_Lq ([(1, 15)] ++ tc_copy 10 11 12 ++ tc_mv 19 10) (10, t, q) (10, tc_fu (tc_fu t 12 (t 12 + t 10 * t 11)) 10 0, q) := by
  have hB : tc_bl ([(1, 15)] ++ tc_copy 10 11 12 ++ tc_mv 19 10) := ((tc_bl_a 15).app (tc_bl_copy _ _ _)).app (tc_bl_mv _ _)
  intro n
  induction n with
  | zero =>
    intro t ht h9
    have h0 := tc_z ht
    exact (tc_Lq_0 hB (by decide) h0).ct (by funext j; grind [tc_fu])
  | succ n ih =>
    intro t ht h9
    refine tc_Lq_1 hB (by simp [tc_copy, tc_lp]) (by decide) (tc_nz ht) (((tc_Ex_dn (by decide)).app (tc_Ex_copy (by decide) (by decide) (by decide) (by decide) (by decide) (by grind [tc_fu]))).app tc_Ex_mv) ?_
    refine (ih _ ?_ ?_).ct ?_
    · have := tc_dec ht
      grind [tc_fu]
    · grind [tc_fu]
    · funext j; grind [tc_fu]
theorem tc_Ex_prod {p x y z : Nat} {t : Nat → Fin 16} {q : tc_Q} (hx : x < 6) (hy : y < 6) (hz : z < 6) (hw : tc_Zw t) : tc_Ex (tc_prod p x y z) (p, t, q) (12, tc_fu t x (t y * t z), q) := by
  obtain ⟨z0, z1, z2, z3, z4, z5, z9⟩ := hw
  refine ((((((tc_Ex_copy (by omega) (by omega) (by omega) (by omega) (by omega) z9).app (tc_Ex_copy (by omega) (by omega) (by omega) (by omega) (by omega) ?_)).app tc_Ex_mv).app (tc_Lq_prod _ _ rfl ?_).1).app (tc_Ex_clear (by omega))).app (tc_Ex_repl (by omega) (by omega) (by omega))).ct ?_
  · grind [tc_fu]
  · grind [tc_fu]
  · funext j; grind [tc_fu]

theorem tc_Lq_if {B : List tc_T} {c : Nat} {t t1 : Nat → Fin 16} {q : tc_Q} (hB : tc_bl B) (hn : B.length ≠ 1) (hc : c < 96) (h0 : t c = 0 → t1 = t) (h1 : ¬ t c = 0 → tc_Ex B (c, t, q) (c, t1, q) ∧ t1 c = 0) : tc_Ex (tc_lp B) (c, t, q) (c, t1, q) := by
  by_cases h : t c = 0
  · rw [h0 h]
    exact (tc_Lq_0 hB hc h).1
  · exact (tc_Lq_1 hB hn hc h (h1 h).1 (tc_Lq_0 hB hc (h1 h).2)).1
theorem tc_Ex_diff {p y z : Nat} {t : Nat → Fin 16} {q : tc_Q} (hy : y < 6) (hz : z < 6) (hw : tc_Zw t) : tc_Ex (tc_diff p y z) (p, t, q) (11, tc_fu t 10 (t y - t z), q) := by
  obtain ⟨z0, z1, z2, z3, z4, z5, z9⟩ := hw
  refine ((((tc_Ex_copy (by omega) (by omega) (by omega) (by omega) (by omega) z9).app (tc_Ex_copy (by omega) (by omega) (by omega) (by omega) (by omega) ?_)).app tc_Ex_mv).app (tc_Lq_sub (by decide) (by decide) (by decide) _ _ rfl).1).ct ?_
  · grind [tc_fu]
  · funext j; grind [tc_fu]
theorem tc_Ex_same {p x y z : Nat} {t : Nat → Fin 16} {q : tc_Q} (hx : x < 6) (hy : y < 6) (hz : z < 6) (hw : tc_Zw t) : tc_Ex (tc_same p x y z) (p, t, q) (12, tc_fu t x (if t y = t z then 1 else 0), q) := by
  have hd := tc_Ex_diff (p := p) (q := q) hy hz hw
  obtain ⟨z0, z1, z2, z3, z4, z5, z9⟩ := hw
  have hI : tc_Ex (tc_lp (tc_clear 10 10 ++ tc_mv 10 12 ++ [(1, 15)] ++ tc_mv 12 10)) (10, tc_fu (tc_fu t 10 (t y - t z)) 12 1, q) (10, tc_fu t 12 (if t y = t z then 1 else 0), q) := by
    refine tc_Lq_if ((((tc_bl_clear _ _).app (tc_bl_mv _ _)).app (tc_bl_a 15)).app (tc_bl_mv _ _)) (by simp [tc_clear, tc_lp]; omega) (by decide) ?_ ?_
    · intro h
      funext j
      grind [tc_fu]
    · intro h
      refine ⟨((((tc_Ex_clear (by decide)).app tc_Ex_mv).app (tc_Ex_dn (by decide))).app tc_Ex_mv).ct ?_, ?_⟩
      · funext j; grind [tc_fu]
      · grind [tc_fu]
  refine (((((hd.app tc_Ex_mv).app (tc_Ex_up (by decide))).app tc_Ex_mv).app (?_ : tc_Ex _ _ (10, tc_fu t 12 (if t y = t z then 1 else 0), q))).app (tc_Ex_repl (by omega) (by omega) (by omega))).ct ?_
  · have e : tc_fu (tc_fu t 10 (t y - t z)) 12 (tc_fu t 10 (t y - t z) 12 + 1) = tc_fu (tc_fu t 10 (t y - t z)) 12 1 := by
      funext j; grind [tc_fu]
    rw [e]
    exact hI
  · funext j; grind [tc_fu]
end
section
/-! which is less, and how often one number goes into another -/
theorem tc_bl_lessA : tc_bl tc_lessA := (((((tc_bl_clear _ _).app (tc_bl_mv _ _)).app (tc_bl_a 15)).app (tc_bl_mv _ _)).app (tc_bl_a 15)).app (tc_bl_mv _ _)
theorem tc_bl_lessB : tc_bl tc_lessB := ((((tc_bl_a 15).app (tc_bl_mv _ _)).app (tc_bl_a 1)).app (tc_bl_clear _ _)).app (tc_bl_mv _ _)
theorem tc_bl_lessL : tc_bl tc_lessL := ((((((((tc_bl_a 15).app (tc_bl_mv _ _)).app (tc_bl_a 1)).app (tc_bl_copy _ _ _)).app (tc_bl_mv _ _)).app (tc_bl_lp tc_bl_lessA)).app (tc_bl_mv _ _)).app (tc_bl_lp tc_bl_lessB)).app (tc_bl_mv _ _)
theorem tc_n_lessA : tc_lessA.length ≠ 1 := by simp [tc_lessA, tc_clear, tc_lp]; omega
theorem tc_n_lessB : tc_lessB.length ≠ 1 := by simp [tc_lessB]
theorem tc_n_lessL : tc_lessL.length ≠ 1 := by simp [tc_lessL]

theorem tc_Ex_lessA {t : Nat → Fin 16} {q : tc_Q} (h3 : t 13 = 1) (h4 : t 14 = t 10) : tc_Ex (tc_lp tc_lessA) (14, t, q) (14, if t 10 = 0 then t else tc_fu (tc_fu (tc_fu t 14 0) 13 0) 10 (t 10 + 15), q) := by
  refine tc_Lq_if tc_bl_lessA tc_n_lessA (by decide) ?_ ?_
  · intro h
    rw [if_pos (by rw [← h4]; exact h)]
  · intro h
    have h10 : ¬ t 10 = 0 := by rw [← h4]; exact h
    rw [if_neg h10]
    refine ⟨((((((tc_Ex_clear (by decide)).app tc_Ex_mv).app (tc_Ex_dn (by decide))).app tc_Ex_mv).app (tc_Ex_dn (by decide))).app tc_Ex_mv).ct ?_, ?_⟩
    · funext j; grind [tc_fu]
    · grind [tc_fu]
theorem tc_Ex_lessB {t : Nat → Fin 16} {q : tc_Q} (h3 : t 13 = 0 ∨ t 13 = 1) : tc_Ex (tc_lp tc_lessB) (13, t, q) (13, if t 13 = 0 then t else tc_fu (tc_fu (tc_fu t 13 0) 12 (t 12 + 1)) 11 0, q) := by
  refine tc_Lq_if tc_bl_lessB tc_n_lessB (by decide) ?_ ?_
  · intro h
    rw [if_pos h]
  · intro h
    rw [if_neg h]
    refine ⟨(((((tc_Ex_dn (by decide)).app tc_Ex_mv).app (tc_Ex_up (by decide))).app (tc_Ex_clear (by decide))).app tc_Ex_mv).ct ?_, ?_⟩
    · funext j; grind [tc_fu]
    · grind [tc_fu]
theorem tc_Ex_lessL {t : Nat → Fin 16} {q : tc_Q} (h3 : t 13 = 0) (h4 : t 14 = 0) (h9 : t 19 = 0) : tc_Ex tc_lessL (11, t, q) (11, if t 10 = 0 then tc_fu (tc_fu t 12 (t 12 + 1)) 11 0 else tc_fu (tc_fu t 11 (t 11 + 15)) 10 (t 10 + 15), q) := by
  refine (((((((((tc_Ex_dn (by decide)).app tc_Ex_mv).app (tc_Ex_up (by decide))).app (tc_Ex_copy (by decide) (by decide) (by decide) (by decide) (by decide) ?_)).app tc_Ex_mv).app (tc_Ex_lessA ?_ ?_)).app tc_Ex_mv).app (tc_Ex_lessB ?_)).app tc_Ex_mv).ct ?_
  · grind [tc_fu]
  · grind [tc_fu]
  · grind [tc_fu]
  · by_cases h : t 10 = 0
    · right; grind [tc_fu]
    · left; grind [tc_fu]
  · by_cases h : t 10 = 0
    · funext j; grind [tc_fu]
    · funext j; grind [tc_fu]
theorem tc_less_dec : ∀ x y : Fin 16, ¬ x = 0 → ¬ y = 0 → (x + 15 < y + 15 ↔ x < y) := by decide +kernel
theorem tc_less_0 : ∀ y : Fin 16, ¬ y = 0 → (0 : Fin 16) < y := by decide +kernel
theorem tc_less_n0 : ∀ x : Fin 16, ¬ x < 0 := by decide +kernel
theorem tc_Lq_less {q : tc_Q} : ∀ (n : Nat) (t : Nat → Fin 16), (t 11).val = n → t 13 = 0 → t 14 = 0 → t 19 = 0 → ∃ a, tc_Lq tc_lessL (11, t, q) (11, tc_fu (tc_fu (tc_fu t 10 a) 11 0) 12 (t 12 + (if t 10 < t 11 then 1 else 0)), q) := by
  intro n
  induction n with
  | zero =>
    intro t ht h3 h4 h9
    have h0 := tc_z ht
    refine ⟨t 10, (tc_Lq_0 tc_bl_lessL (by decide) h0).ct ?_⟩
    rw [if_neg (by rw [h0]; exact tc_less_n0 _)]
    funext j; grind [tc_fu]
  | succ n ih =>
    intro t ht h3 h4 h9
    have hb := tc_Ex_lessL (q := q) h3 h4 h9
    by_cases h : t 10 = 0
    · rw [if_pos h] at hb
      refine ⟨0, (tc_Lq_1 tc_bl_lessL tc_n_lessL (by decide) (tc_nz ht) hb (tc_Lq_0 tc_bl_lessL (by decide) (by grind [tc_fu]))).ct ?_⟩
      rw [if_pos (by rw [h]; exact tc_less_0 _ (tc_nz ht))]
      funext j; grind [tc_fu]
    · rw [if_neg h] at hb
      obtain ⟨a, ha⟩ := ih (tc_fu (tc_fu t 11 (t 11 + 15)) 10 (t 10 + 15)) (by have := tc_dec ht; grind [tc_fu]) (by grind [tc_fu]) (by grind [tc_fu]) (by grind [tc_fu])
      refine ⟨a, (tc_Lq_1 tc_bl_lessL tc_n_lessL (by decide) (tc_nz ht) hb ha).ct ?_⟩
      have e := tc_less_dec (t 10) (t 11) h (tc_nz ht)
      have e1 : tc_fu (tc_fu t 11 (t 11 + 15)) 10 (t 10 + 15) 10 = t 10 + 15 := by grind [tc_fu]
      have e2 : tc_fu (tc_fu t 11 (t 11 + 15)) 10 (t 10 + 15) 11 = t 11 + 15 := by grind [tc_fu]
      have e3 : tc_fu (tc_fu t 11 (t 11 + 15)) 10 (t 10 + 15) 12 = t 12 := by grind [tc_fu]
      rw [e1, e2, e3]
      simp only [e]
      funext j; grind [tc_fu]
theorem tc_Ex_less {p x y z : Nat} {t : Nat → Fin 16} {q : tc_Q} (hx : x < 6) (hy : y < 6) (hz : z < 6) (hw : tc_Zw t) : tc_Ex (tc_less p x y z) (p, t, q) (12, tc_fu t x (if t y < t z then 1 else 0), q) := by
  obtain ⟨z0, z1, z2, z3, z4, z5, z9⟩ := hw
  have hc := ((tc_Ex_copy (p := p) (a := y) (b := 10) (q := q) (by omega) (by omega) (by omega) (by omega) (by omega) z9).app (tc_Ex_copy (p := 19) (a := z) (b := 11) (by omega) (by omega) (by omega) (by omega) (by omega) (by grind [tc_fu]))).ct (t' := tc_fu (tc_fu t 10 (t y)) 11 (t z)) (by funext j; grind [tc_fu])
  obtain ⟨a, ha⟩ := tc_Lq_less (q := q) _ (tc_fu (tc_fu t 10 (t y)) 11 (t z)) rfl (by grind [tc_fu]) (by grind [tc_fu]) (by grind [tc_fu])
  have e1 : tc_fu (tc_fu t 10 (t y)) 11 (t z) 10 = t y := by grind [tc_fu]
  have e2 : tc_fu (tc_fu t 10 (t y)) 11 (t z) 11 = t z := by grind [tc_fu]
  have e3 : tc_fu (tc_fu t 10 (t y)) 11 (t z) 12 = 0 := by grind [tc_fu]
  rw [e1, e2, e3] at ha
  refine ((((hc.app tc_Ex_mv).app ha.1).app (tc_Ex_clear (by decide))).app (tc_Ex_repl (by omega) (by omega) (by omega))).ct ?_
  generalize (if t y < t z then (1 : Fin 16) else 0) = v
  funext j; grind [tc_fu]

theorem tc_bl_quoA : tc_bl tc_quoA := (((tc_bl_clear _ _).app (tc_bl_mv _ _)).app (tc_bl_a 15)).app (tc_bl_mv _ _)
theorem tc_bl_quoB (z : Nat) : tc_bl (tc_quoB z) := ((((tc_bl_a 15).app (tc_bl_mv _ _)).app (tc_bl_a 1)).app (tc_bl_copy _ _ _)).app (tc_bl_mv _ _)
theorem tc_bl_quoL (z : Nat) : tc_bl (tc_quoL z) := ((((((((((tc_bl_a 15).app (tc_bl_mv _ _)).app (tc_bl_a 15)).app (tc_bl_mv _ _)).app (tc_bl_a 1)).app (tc_bl_copy _ _ _)).app (tc_bl_mv _ _)).app (tc_bl_lp tc_bl_quoA)).app (tc_bl_mv _ _)).app (tc_bl_lp (tc_bl_quoB z))).app (tc_bl_mv _ _)
theorem tc_bl_quoM (y z : Nat) : tc_bl (tc_quoM y z) := ((((((tc_bl_clear _ _).app (tc_bl_copy _ _ _)).app (tc_bl_copy _ _ _)).app (tc_bl_mv _ _)).app (tc_bl_lp (tc_bl_quoL z))).app (tc_bl_clear _ _)).app (tc_bl_mv _ _)
theorem tc_n_quoA : tc_quoA.length ≠ 1 := by simp [tc_quoA, tc_clear, tc_lp]; omega
theorem tc_n_quoB (z : Nat) : (tc_quoB z).length ≠ 1 := by simp [tc_quoB]
theorem tc_n_quoL (z : Nat) : (tc_quoL z).length ≠ 1 := by simp [tc_quoL]
theorem tc_n_quoM (y z : Nat) : (tc_quoM y z).length ≠ 1 := by simp [tc_quoM, tc_clear, tc_lp]; omega
theorem tc_Ex_quoA {t : Nat → Fin 16} {q : tc_Q} (h3 : t 13 = 1) : tc_Ex (tc_lp tc_quoA) (14, t, q) (14, if t 14 = 0 then t else tc_fu (tc_fu t 14 0) 13 0, q) := by
  refine tc_Lq_if tc_bl_quoA tc_n_quoA (by decide) ?_ ?_
  · intro h
    rw [if_pos h]
  · intro h
    rw [if_neg h]
    refine ⟨((((tc_Ex_clear (by decide)).app tc_Ex_mv).app (tc_Ex_dn (by decide))).app tc_Ex_mv).ct ?_, ?_⟩
    · funext j; grind [tc_fu]
    · grind [tc_fu]
theorem tc_Ex_quoB {z : Nat} {t : Nat → Fin 16} {q : tc_Q} (hz : z < 6) (h3 : t 13 = 0 ∨ t 13 = 1) (h9 : t 19 = 0) : tc_Ex (tc_lp (tc_quoB z)) (13, t, q) (13, if t 13 = 0 then t else tc_fu (tc_fu (tc_fu t 13 0) 12 (t 12 + 1)) 11 (t 11 + t z), q) := by
  refine tc_Lq_if (tc_bl_quoB z) (tc_n_quoB z) (by decide) ?_ ?_
  · intro h
    rw [if_pos h]
  · intro h
    rw [if_neg h]
    refine ⟨(((((tc_Ex_dn (by decide)).app tc_Ex_mv).app (tc_Ex_up (by decide))).app (tc_Ex_copy (by omega) (by omega) (by decide) (by omega) (by decide) ?_)).app tc_Ex_mv).ct ?_, ?_⟩
    · grind [tc_fu]
    · funext j; grind [tc_fu]
    · grind [tc_fu]
theorem tc_Ex_quoL {z : Nat} {t : Nat → Fin 16} {q : tc_Q} (hz : z < 6) (h3 : t 13 = 0) (h4 : t 14 = 0) (h9 : t 19 = 0) : tc_Ex (tc_quoL z) (10, t, q) (10, if t 11 + 15 = 0 then tc_fu (tc_fu (tc_fu t 10 (t 10 + 15)) 11 (t z)) 12 (t 12 + 1) else tc_fu (tc_fu t 10 (t 10 + 15)) 11 (t 11 + 15), q) := by
  have A := ((((((tc_Ex_dn (p := 10) (t := t) (q := q) (by decide)).app (tc_Ex_mv (p' := 11))).app (tc_Ex_dn (by decide))).app (tc_Ex_mv (p' := 13))).app (tc_Ex_up (by decide))).app (tc_Ex_copy (a := 11) (b := 14) (by decide) (by decide) (by decide) (by decide) (by decide) (by grind [tc_fu]))).ct (t' := tc_fu (tc_fu (tc_fu (tc_fu t 10 (t 10 + 15)) 11 (t 11 + 15)) 13 1) 14 (t 11 + 15)) (by funext j; grind [tc_fu])
  have B := tc_Ex_quoA (t := tc_fu (tc_fu (tc_fu (tc_fu t 10 (t 10 + 15)) 11 (t 11 + 15)) 13 1) 14 (t 11 + 15)) (q := q) (by grind [tc_fu])
  by_cases h : t 11 + 15 = 0
  · rw [if_pos (by grind [tc_fu])] at B
    rw [if_pos h]
    have C := tc_Ex_quoB (z := z) (t := tc_fu (tc_fu (tc_fu (tc_fu t 10 (t 10 + 15)) 11 (t 11 + 15)) 13 1) 14 (t 11 + 15)) (q := q) hz (Or.inr (by grind [tc_fu])) (by grind [tc_fu])
    rw [if_neg (by grind [tc_fu])] at C
    exact (((((A.app tc_Ex_mv).app B).app tc_Ex_mv).app C).app tc_Ex_mv).ct (by funext j; grind [tc_fu])
  · rw [if_neg (by grind [tc_fu])] at B
    rw [if_neg h]
    have B' := B.ct (t' := tc_fu (tc_fu t 10 (t 10 + 15)) 11 (t 11 + 15)) (by funext j; grind [tc_fu])
    have C := tc_Ex_quoB (z := z) (t := tc_fu (tc_fu t 10 (t 10 + 15)) 11 (t 11 + 15)) (q := q) hz (Or.inl (by grind [tc_fu])) (by grind [tc_fu])
    rw [if_pos (by grind [tc_fu])] at C
    exact ((((A.app tc_Ex_mv).app B').app tc_Ex_mv).app C).app tc_Ex_mv
theorem tc_quo_a {a b z : Nat} (hb : b + 1 ≤ z) : (a + 1 + (z - (b + 1))) / z = (a + (z - b)) / z := by
  rw [show a + 1 + (z - (b + 1)) = a + (z - b) by omega]
theorem tc_quo_b {a z : Nat} (hz : 0 < z) : (a + 1 + (z - 1)) / z = a / z + 1 := by
  rw [show a + 1 + (z - 1) = a + z by omega, Nat.add_div_right a hz]
theorem tc_of_s (n : Nat) : Fin.ofNat 16 (n + 1) = 1 + Fin.ofNat 16 n := by
  apply Fin.ext
  rw [Fin.val_add]
  show (n + 1) % 16 = (1 + n % 16) % 16
  omega
theorem tc_Lq_quo {z : Nat} {q : tc_Q} (hz : z < 6) : ∀ (n : Nat) (t : Nat → Fin 16), (t 10).val = n → t 13 = 0 → t 14 = 0 → t 19 = 0 → 1 ≤ (t 11).val → (t 11).val ≤ (t z).val → ∃ b, tc_Lq (tc_quoL z) (10, t, q) (10, tc_fu (tc_fu (tc_fu t 10 0) 11 b) 12 (t 12 + Fin.ofNat 16 ((n + ((t z).val - (t 11).val)) / (t z).val)), q) := by
  intro n
  induction n with
  | zero =>
    intro t ht h3 h4 h9 hl hu
    have h0 := tc_z ht
    refine ⟨t 11, (tc_Lq_0 (tc_bl_quoL z) (by decide) h0).ct ?_⟩
    rw [Nat.div_eq_of_lt (by omega)]
    have e : t 12 + Fin.ofNat 16 0 = t 12 := by
      show t 12 + 0 = t 12
      grind
    rw [e]
    funext j; grind [tc_fu]
  | succ n ih =>
    intro t ht h3 h4 h9 hl hu
    have hb := tc_Ex_quoL (z := z) (q := q) hz h3 h4 h9
    by_cases h : t 11 + 15 = 0
    · rw [if_pos h] at hb
      have h11 : (t 11).val = 1 := by
        have : t 11 = 1 := by grind
        rw [this]; rfl
      obtain ⟨b, hb2⟩ := ih (tc_fu (tc_fu (tc_fu t 10 (t 10 + 15)) 11 (t z)) 12 (t 12 + 1)) (by have := tc_dec ht; grind [tc_fu]) (by grind [tc_fu]) (by grind [tc_fu]) (by grind [tc_fu])
        (by have : tc_fu (tc_fu (tc_fu t 10 (t 10 + 15)) 11 (t z)) 12 (t 12 + 1) 11 = t z := by grind [tc_fu]
            rw [this]; omega)
        (by have : tc_fu (tc_fu (tc_fu t 10 (t 10 + 15)) 11 (t z)) 12 (t 12 + 1) 11 = t z := by grind [tc_fu]
            have : tc_fu (tc_fu (tc_fu t 10 (t 10 + 15)) 11 (t z)) 12 (t 12 + 1) z = t z := by grind [tc_fu]
            omega)
      refine ⟨b, (tc_Lq_1 (tc_bl_quoL z) (tc_n_quoL z) (by decide) (tc_nz ht) hb hb2).ct ?_⟩
      have e1 : tc_fu (tc_fu (tc_fu t 10 (t 10 + 15)) 11 (t z)) 12 (t 12 + 1) 11 = t z := by grind [tc_fu]
      have e2 : tc_fu (tc_fu (tc_fu t 10 (t 10 + 15)) 11 (t z)) 12 (t 12 + 1) z = t z := by grind [tc_fu]
      have e3 : tc_fu (tc_fu (tc_fu t 10 (t 10 + 15)) 11 (t z)) 12 (t 12 + 1) 12 = t 12 + 1 := by grind [tc_fu]
      rw [e1, e2, e3, h11, Nat.sub_self, Nat.add_zero, tc_quo_b (by omega), tc_of_s]
      generalize Fin.ofNat 16 (n / (t z).val) = v
      funext j; grind [tc_fu]
    · rw [if_neg h] at hb
      obtain ⟨m, hm⟩ : ∃ m, (t 11).val = m + 1 := ⟨(t 11).val - 1, by omega⟩
      have hm0 : (t 11 + 15).val = m := tc_dec hm
      have hm1 : m ≠ 0 := fun hz0 => h (tc_z (by rw [hm0, hz0]))
      have e1 : tc_fu (tc_fu t 10 (t 10 + 15)) 11 (t 11 + 15) 11 = t 11 + 15 := by grind [tc_fu]
      have e2 : tc_fu (tc_fu t 10 (t 10 + 15)) 11 (t 11 + 15) z = t z := by grind [tc_fu]
      have e3 : tc_fu (tc_fu t 10 (t 10 + 15)) 11 (t 11 + 15) 12 = t 12 := by grind [tc_fu]
      obtain ⟨b, hb2⟩ := ih (tc_fu (tc_fu t 10 (t 10 + 15)) 11 (t 11 + 15)) (by have := tc_dec ht; grind [tc_fu]) (by grind [tc_fu]) (by grind [tc_fu]) (by grind [tc_fu])
        (by rw [e1, hm0]; omega) (by rw [e1, e2, hm0]; omega)
      refine ⟨b, (tc_Lq_1 (tc_bl_quoL z) (tc_n_quoL z) (by decide) (tc_nz ht) hb hb2).ct ?_⟩
      rw [e1, e2, e3, hm0, hm, tc_quo_a (by omega)]
      generalize Fin.ofNat 16 ((n + ((t z).val - m)) / (t z).val) = v
      funext j; grind [tc_fu]
theorem tc_quo_v (y z : Fin 16) : Fin.ofNat 16 (y.val / z.val) = y / z := by
  revert y z; decide +kernel
theorem tc_Ex_quoM {y z : Nat} {t : Nat → Fin 16} {q : tc_Q} (hy : y < 6) (hz : z < 6) (hw : tc_Zw (tc_fu t 15 0)) (h0 : ¬ t z = 0) : tc_Ex (tc_quoM y z) (15, t, q) (15, tc_fu (tc_fu (tc_fu t 15 0) 12 (t y / t z)) 10 0, q) := by
  obtain ⟨z0, z1, z2, z3, z4, z5, z9⟩ := hw
  have A := (((tc_Ex_clear (p := 15) (a := 15) (t := t) (q := q) (by decide)).app (tc_Ex_copy (a := y) (b := 10) (by omega) (by omega) (by omega) (by omega) (by omega) z9)).app (tc_Ex_copy (a := z) (b := 11) (by omega) (by omega) (by omega) (by omega) (by omega) (by grind [tc_fu]))).ct (t' := tc_fu (tc_fu (tc_fu t 15 0) 10 (t y)) 11 (t z)) (by funext j; grind [tc_fu])
  have e1 : tc_fu (tc_fu (tc_fu t 15 0) 10 (t y)) 11 (t z) 11 = t z := by grind [tc_fu]
  have e2 : tc_fu (tc_fu (tc_fu t 15 0) 10 (t y)) 11 (t z) z = t z := by grind [tc_fu]
  have e3 : tc_fu (tc_fu (tc_fu t 15 0) 10 (t y)) 11 (t z) 12 = 0 := by grind [tc_fu]
  have e4 : tc_fu (tc_fu (tc_fu t 15 0) 10 (t y)) 11 (t z) 10 = t y := by grind [tc_fu]
  have hpos : 1 ≤ (t z).val := by
    by_cases h : (t z).val = 0
    · exact absurd (tc_z h) h0
    · omega
  obtain ⟨b, hB⟩ := tc_Lq_quo (z := z) (q := q) hz _ (tc_fu (tc_fu (tc_fu t 15 0) 10 (t y)) 11 (t z)) (congrArg Fin.val e4) (by grind [tc_fu]) (by grind [tc_fu]) (by grind [tc_fu]) (by rw [e1]; exact hpos) (by rw [e1, e2]; exact Nat.le_refl _)
  rw [e1, e2, e3, Nat.sub_self, Nat.add_zero, tc_quo_v] at hB
  generalize t y / t z = v at hB ⊢
  exact ((((A.app tc_Ex_mv).app hB.1).app (tc_Ex_clear (by decide))).app tc_Ex_mv).ct (by funext j; grind [tc_fu])
theorem tc_Ex_quot {p x y z : Nat} {t : Nat → Fin 16} {q : tc_Q} (hx : x < 6) (hy : y < 6) (hz : z < 6) (hw : tc_Zw t) : tc_Ex (tc_quot p x y z) (p, t, q) (12, tc_fu t x (if t z = 0 then 0 else t y / t z), q) := by
  have hw' := hw
  obtain ⟨z0, z1, z2, z3, z4, z5, z9⟩ := hw
  have A := (tc_Ex_copy (p := p) (a := z) (b := 15) (t := t) (q := q) (by omega) (by omega) (by omega) (by omega) (by omega) z9).ct (t' := tc_fu t 15 (t z)) (by funext j; grind [tc_fu])
  have B : tc_Ex (tc_lp (tc_quoM y z)) (15, tc_fu t 15 (t z), q) (15, tc_fu t 12 (if t z = 0 then 0 else t y / t z), q) := by
    refine tc_Lq_if (tc_bl_quoM y z) (tc_n_quoM y z) (by decide) ?_ ?_
    · intro h
      have : t z = 0 := by grind [tc_fu]
      rw [if_pos this]
      funext j; grind [tc_fu]
    · intro h
      have h0 : ¬ t z = 0 := by grind [tc_fu]
      rw [if_neg h0]
      have ez : tc_fu t 15 (t z) z = t z := by grind [tc_fu]
      have ey : tc_fu t 15 (t z) y = t y := by grind [tc_fu]
      have := tc_Ex_quoM (y := y) (z := z) (t := tc_fu t 15 (t z)) (q := q) hy hz (by refine ⟨?_, ?_, ?_, ?_, ?_, ?_, ?_⟩ <;> grind [tc_fu]) (by rw [ez]; exact h0)
      rw [ez, ey] at this
      generalize t y / t z = v at this ⊢
      exact ⟨this.ct (by funext j; grind [tc_fu]), by grind [tc_fu]⟩
  generalize (if t z = 0 then 0 else t y / t z) = v at B ⊢
  exact (((A.app tc_Ex_mv).app B).app (tc_Ex_repl (by omega) (by omega) (by omega))).ct (by funext j; grind [tc_fu])
end
section
/-! elements: the walk out with a trail, and back -/
def tc_wo (t : Nat → Fin 16) (i : Nat) (k v : Fin 16) : Nat → Fin 16 := fun j => if j = 25 + 4 * i then k else if j = 26 + 4 * i then v else if 28 ≤ j ∧ j ≤ 24 + 4 * i ∧ j % 4 = 0 then 1 else t j
def tc_Za (t : Nat → Fin 16) : Prop := ∀ i, i < 16 → t (24 + 4 * i) = 0 ∧ t (25 + 4 * i) = 0 ∧ t (26 + 4 * i) = 0

theorem tc_neg (p k : Nat) : nI (p + k) + -(nI k) = nI p := by
  rw [← nI_add]; grind
theorem tc_Ex_sh {p p' : Nat} {k : Int32} {t : Nat → Fin 16} {q : tc_Q} (h : nI p + k = nI p') (hne : p ≠ p') (hp : p < 96) (hp' : p' < 96) : tc_Ex (tc_sh k) (p, t, q) (p, tc_fu (tc_fu t p' (t p' + t p)) p 0, q) :=
  (tc_Lq_carry hne hp hp' (fun _ => tc_Ex_m1 h) (fun _ => tc_Ex_m1 (by rw [← h]; grind)) (tc_bl_m _) (tc_bl_m _) _ t rfl).1
theorem tc_bl_sh (k : Int32) : tc_bl (tc_sh k) := tc_bl_lp ((((tc_bl_a 15).app (tc_bl_m _)).app (tc_bl_a 1)).app (tc_bl_m _))
theorem tc_bl_outL : tc_bl tc_outL := ((((((tc_bl_a 15).app (tc_bl_sh 4)).app (tc_bl_m 1)).app (tc_bl_sh 4)).app (tc_bl_m 2)).app (tc_bl_a 1)).app (tc_bl_m 1)
theorem tc_n_outL : tc_outL.length ≠ 1 := by simp [tc_outL]
theorem tc_bl_pickL : tc_bl tc_pickL := (((((tc_bl_a 15).app (tc_bl_m _)).app (tc_bl_a 1)).app (tc_bl_m _)).app (tc_bl_a 1)).app (tc_bl_m 2)
theorem tc_n_pickL : tc_pickL.length ≠ 1 := by simp [tc_pickL]
theorem tc_bl_backL : tc_bl tc_backL := (((tc_bl_a 15).app (tc_bl_m 2)).app (tc_bl_sh _)).app (tc_bl_m _)
theorem tc_n_backL : tc_backL.length ≠ 1 := by simp [tc_backL]

theorem tc_Ex_outL {t : Nat → Fin 16} {q : tc_Q} {i : Nat} {k v : Fin 16} (hi : i < 15) (hz : tc_Za t) : tc_Ex tc_outL (25 + 4 * i, tc_wo t i k v, q) (25 + 4 * (i + 1), tc_wo t (i + 1) (k + 15) v, q) := by
  obtain ⟨za, zb, zc⟩ := hz i (by omega)
  obtain ⟨zd, ze, zf⟩ := hz (i + 1) (by omega)
  refine (((((((tc_Ex_dn (by omega)).app (tc_Ex_sh (p' := 29 + 4 * i) ?_ (by omega) (by omega) (by omega))).app (tc_Ex_m1 (p' := 26 + 4 * i) ?_)).app (tc_Ex_sh (p' := 30 + 4 * i) ?_ (by omega) (by omega) (by omega))).app (tc_Ex_m1 (p' := 28 + 4 * i) ?_)).app (tc_Ex_up (by omega))).app (tc_Ex_m1 ?_)).ct ?_
  · rw [show 29 + 4 * i = 25 + 4 * i + 4 by omega]; exact nI_add _ 4
  · rw [show 26 + 4 * i = 25 + 4 * i + 1 by omega]; exact nI_add _ 1
  · rw [show 30 + 4 * i = 26 + 4 * i + 4 by omega]; exact nI_add _ 4
  · rw [show 28 + 4 * i = 26 + 4 * i + 2 by omega]; exact nI_add _ 2
  · rw [show 25 + 4 * (i + 1) = 28 + 4 * i + 1 by omega]; exact nI_add _ 1
  · rw [show 24 + 4 * (i + 1) = 28 + 4 * i by omega] at zd
    rw [show 25 + 4 * (i + 1) = 29 + 4 * i by omega] at ze
    rw [show 26 + 4 * (i + 1) = 30 + 4 * i by omega] at zf
    funext j; grind [tc_fu, tc_wo]
theorem tc_Lq_out {t : Nat → Fin 16} {q : tc_Q} {v : Fin 16} (hz : tc_Za t) : ∀ (n i : Nat) (k : Fin 16), k.val = n → i + n ≤ 15 → tc_Lq tc_outL (25 + 4 * i, tc_wo t i k v, q) (25 + 4 * (i + n), tc_wo t (i + n) 0 v, q) := by
  intro n
  induction n with
  | zero =>
    intro i k hk hi
    have h0 := tc_z hk
    subst h0
    exact tc_Lq_0 tc_bl_outL (by omega) (by grind [tc_wo])
  | succ n ih =>
    intro i k hk hi
    refine tc_Lq_1 tc_bl_outL tc_n_outL (by omega) (by have := tc_nz hk; grind [tc_wo]) (tc_Ex_outL (by omega) hz) ?_
    have := ih (i + 1) (k + 15) (tc_dec hk) (by omega)
    rw [show i + 1 + n = i + (n + 1) by omega] at this
    exact this
theorem tc_Lq_pick {c : Nat} {q : tc_Q} (hc : c + 2 < 96) : ∀ (n : Nat) (t : Nat → Fin 16), (t (c + 2)).val = n → tc_Lq tc_pickL (c + 2, t, q) (c + 2, tc_fu (tc_fu (tc_fu t (c + 1) (t (c + 1) + t (c + 2))) c (t c + t (c + 2))) (c + 2) 0, q) := by
  intro n
  induction n with
  | zero =>
    intro t ht
    have h0 := tc_z ht
    exact (tc_Lq_0 tc_bl_pickL hc h0).ct (by funext j; grind [tc_fu])
  | succ n ih =>
    intro t ht
    refine tc_Lq_1 tc_bl_pickL tc_n_pickL hc (tc_nz ht) ((((((tc_Ex_dn hc).app (tc_Ex_m1 (p' := c + 1) (tc_neg (c + 1) 1))).app (tc_Ex_up (by omega))).app (tc_Ex_m1 (p' := c) (tc_neg c 1))).app (tc_Ex_up (by omega))).app (tc_Ex_m1 (p' := c + 2) (nI_add c 2))) ?_
    refine (ih _ ?_).ct ?_
    · have := tc_dec ht
      grind [tc_fu]
    · funext j; grind [tc_fu]
theorem tc_Ex_pick {t : Nat → Fin 16} {q : tc_Q} {n : Nat} (hn : n < 16) : tc_Ex tc_pick (25 + 4 * n, tc_wo t n 0 0, q) (25 + 4 * n, tc_wo t n 0 (t (27 + 4 * n)), q) := by
  refine ((((tc_Ex_m1 (p' := 25 + 4 * n + 2) (nI_add _ 2)).app (tc_Lq_pick (by omega) _ _ rfl).1).app (tc_Ex_m1 (p' := 25 + 4 * n) (tc_neg _ 2))).app (tc_Ex_sh (p' := 25 + 4 * n + 2) (nI_add _ 2) (by omega) (by omega) (by omega))).ct ?_
  rw [show 27 + 4 * n = 25 + 4 * n + 2 by omega]
  funext j; grind [tc_fu, tc_wo]
theorem tc_Ex_backL {t : Nat → Fin 16} {q : tc_Q} {i : Nat} {v : Fin 16} (hi : i < 15) (hz : tc_Za t) : tc_Ex tc_backL (24 + 4 * (i + 1), tc_wo t (i + 1) 0 v, q) (24 + 4 * i, tc_wo t i 0 v, q) := by
  obtain ⟨za, zb, zc⟩ := hz i (by omega)
  obtain ⟨zd, ze, zf⟩ := hz (i + 1) (by omega)
  refine ((((tc_Ex_dn (by omega)).app (tc_Ex_m1 (p' := 24 + 4 * (i + 1) + 2) (nI_add _ 2))).app (tc_Ex_sh (p' := 26 + 4 * i) ?_ (by omega) (by omega) (by omega))).app (tc_Ex_m1 ?_)).ct ?_
  · rw [show 24 + 4 * (i + 1) + 2 = 26 + 4 * i + 4 by omega]; exact tc_neg _ 4
  · rw [show 24 + 4 * (i + 1) + 2 = 24 + 4 * i + 6 by omega]; exact tc_neg _ 6
  · have e1 : tc_wo t (i + 1) 0 v (24 + 4 * (i + 1)) = 1 := by grind [tc_wo]
    have e2 : tc_wo t (i + 1) 0 v (24 + 4 * (i + 1) + 2) = v := by grind [tc_wo]
    have e3 : tc_wo t (i + 1) 0 v (26 + 4 * i) = 0 := by grind [tc_wo]
    have f2 : tc_fu (tc_wo t (i + 1) 0 v) (24 + 4 * (i + 1)) (tc_wo t (i + 1) 0 v (24 + 4 * (i + 1)) + 15) (24 + 4 * (i + 1) + 2) = v := by grind [tc_fu]
    have f3 : tc_fu (tc_wo t (i + 1) 0 v) (24 + 4 * (i + 1)) (tc_wo t (i + 1) 0 v (24 + 4 * (i + 1)) + 15) (26 + 4 * i) = 0 := by grind [tc_fu]
    rw [f2, f3, e1]
    rw [show (1 : Fin 16) + 15 = 0 by decide, show (0 : Fin 16) + v = v by grind]
    funext j; grind (splits := 20) [tc_fu, tc_wo]
theorem tc_Lq_back {t : Nat → Fin 16} {q : tc_Q} {v : Fin 16} (hz : tc_Za t) : ∀ (n : Nat), n < 16 → tc_Lq tc_backL (24 + 4 * n, tc_wo t n 0 v, q) (24, tc_wo t 0 0 v, q) := by
  intro n
  induction n with
  | zero =>
    intro _
    exact tc_Lq_0 tc_bl_backL (by decide) (by have := (hz 0 (by decide)).1; grind [tc_wo])
  | succ n ih =>
    intro hn
    exact tc_Lq_1 tc_bl_backL tc_n_backL (by omega) (by grind [tc_wo]) (tc_Ex_backL (by omega) hz) (ih (by omega))
theorem tc_Ex_back {t : Nat → Fin 16} {q : tc_Q} {v : Fin 16} {n : Nat} (hn : n < 16) (hz : tc_Za t) : tc_Ex tc_back (25 + 4 * n, tc_wo t n 0 v, q) (24, tc_wo t 0 0 v, q) := by
  refine (tc_Ex_m1 (p' := 24 + 4 * n) ?_).app (tc_Lq_back hz n hn).1
  rw [show 25 + 4 * n = 24 + 4 * n + 1 by omega]; exact tc_neg _ 1
theorem tc_Ex_out {t : Nat → Fin 16} {q : tc_Q} {k v : Fin 16} (hz : tc_Za t) : tc_Ex tc_out (25, tc_wo t 0 k v, q) (25 + 4 * k.val, tc_wo t k.val 0 v, q) := by
  have := (tc_Lq_out (q := q) (v := v) hz k.val 0 k rfl (by have := k.isLt; omega)).1
  rw [Nat.zero_add] at this
  exact this
theorem tc_Ex_get {p x y : Nat} {t : Nat → Fin 16} {q : tc_Q} (hx : x < 6) (hy : y < 6) (hw : tc_Zw t) (hz : tc_Za t) : tc_Ex (tc_get p x y) (p, t, q) (26, tc_fu t x (t (27 + 4 * (t y).val)), q) := by
  obtain ⟨z0, z1, z2, z3, z4, z5, z9⟩ := hw
  obtain ⟨a0, a1, a2⟩ := hz 0 (by decide)
  have A := (tc_Ex_copy (p := p) (a := y) (b := 25) (t := t) (q := q) (by omega) (by omega) (by omega) (by omega) (by omega) z9).ct (t' := tc_wo t 0 (t y) 0) (by funext j; grind [tc_fu, tc_wo])
  refine (((((A.app tc_Ex_mv).app (tc_Ex_out hz)).app (tc_Ex_pick (t y).isLt)).app (tc_Ex_back (t y).isLt hz)).app (tc_Ex_repl (by omega) (by omega) (by omega))).ct ?_
  generalize t (27 + 4 * (t y).val) = e
  funext j; grind [tc_fu, tc_wo]
theorem tc_Za_fu {t : Nat → Fin 16} {n : Nat} {e : Fin 16} (hz : tc_Za t) : tc_Za (tc_fu t (27 + 4 * n) e) := by
  intro i hi
  obtain ⟨a, b, c⟩ := hz i hi
  refine ⟨?_, ?_, ?_⟩ <;> grind [tc_fu]
theorem tc_Ex_put {p x y : Nat} {t : Nat → Fin 16} {q : tc_Q} (hx : x < 6) (hy : y < 6) (hw : tc_Zw t) (hz : tc_Za t) : tc_Ex (tc_put p x y) (p, t, q) (24, tc_fu t (27 + 4 * (t x).val) (t y), q) := by
  obtain ⟨z0, z1, z2, z3, z4, z5, z9⟩ := hw
  obtain ⟨a0, a1, a2⟩ := hz 0 (by decide)
  have hn := (t x).isLt
  have A := ((tc_Ex_copy (p := p) (a := x) (b := 25) (t := t) (q := q) (by omega) (by omega) (by omega) (by omega) (by omega) z9).app (tc_Ex_copy (a := y) (b := 26) (by omega) (by omega) (by omega) (by omega) (by omega) (by grind [tc_fu]))).ct (t' := tc_wo t 0 (t x) (t y)) (by funext j; grind [tc_fu, tc_wo])
  have B := (((((((A.app tc_Ex_mv).app (tc_Ex_out hz)).app (tc_Ex_m1 (p' := 25 + 4 * (t x).val + 2) (nI_add _ 2))).app (tc_Ex_cl (by omega))).app (tc_Ex_m1 (p' := 25 + 4 * (t x).val + 1) (tc_neg _ 1))).app (tc_Ex_sh (k := 1) (p' := 25 + 4 * (t x).val + 2) (nI_add _ 1) (by omega) (by omega) (by omega))).app (tc_Ex_m1 (k := -1) (p' := 25 + 4 * (t x).val) (tc_neg _ 1))).ct (t' := tc_wo (tc_fu t (27 + 4 * (t x).val) (t y)) (t x).val 0 0) (by
      generalize (t x).val = n
      generalize t y = e
      rw [show 27 + 4 * n = 25 + 4 * n + 2 by omega]
      funext j; grind [tc_fu, tc_wo])
  refine (B.app (tc_Ex_back hn (tc_Za_fu hz))).ct ?_
  generalize (t x).val = n
  generalize t y = e
  funext j; grind [tc_fu, tc_wo]
end
section
/-! what statements mean, and their code -/
abbrev tc_M : Type := (Nat → Fin 16) × tc_Q
def tc_rs (k x y z : Nat) (t : Nat → Fin 16) : Fin 16 :=
  if k = 0 then Fin.ofNat 16 y
  else if k = 1 then t y
  else if k = 2 then t x + t y
  else if k = 3 then t x - t y
  else if k = 4 then t y * t z
  else if k = 5 then (if t y < t z then 1 else 0)
  else if k = 6 then (if t y = t z then 1 else 0)
  else if k = 7 then t (27 + 4 * (t y).val)
  else (if t z = 0 then 0 else t y / t z)
def tc_pe (k x y z : Nat) (m : tc_M) : tc_M :=
  if k = 9 then (m.1, tc_pr m.2 (m.1 x))
  else if k = 8 then (tc_fu m.1 (27 + 4 * (m.1 x).val) (m.1 y), m.2)
  else (tc_fu m.1 x (tc_rs k x y z m.1), m.2)
def tc_it (g : tc_M → tc_M) : Nat → tc_M → tc_M
  | 0, m => m
  | n + 1, m => tc_it g n (g m)
def tc_ev (kk xx yy zz : Nat → Nat) : Nat → Nat → tc_M → tc_M
  | 0, _, m => m
  | f + 1, s, m =>
    if kk s = 10 then tc_ev kk xx yy zz f (yy s) (tc_ev kk xx yy zz f (xx s) m)
    else if kk s = 11 then (if m.1 (xx s) = 0 then tc_ev kk xx yy zz f (zz s) m else tc_ev kk xx yy zz f (yy s) m)
    else if kk s = 12 then tc_it (tc_ev kk xx yy zz f (yy s)) (m.1 (xx s)).val m
    else tc_pe (kk s) (xx s) (yy s) (zz s) m
def tc_ifA (h : Nat) (A : List tc_T × Nat) : List tc_T := A.1 ++ tc_clear A.2 h ++ tc_mv h (h + 1) ++ [(1, 15)] ++ tc_mv (h + 1) h
def tc_ifB (h : Nat) (B : List tc_T × Nat) : List tc_T := B.1 ++ tc_mv B.2 (h + 1) ++ [(1, 15)]
def tc_ifc (p x h : Nat) (A B : List tc_T × Nat) : List tc_T := tc_copy p x h ++ tc_mv 19 (h + 1) ++ [(1, 1)] ++ tc_mv (h + 1) h ++ tc_lp (tc_ifA h A) ++ tc_mv h (h + 1) ++ tc_lp (tc_ifB h B)
def tc_rpA (h : Nat) (A : List tc_T × Nat) : List tc_T := [(1, 15)] ++ A.1 ++ tc_mv A.2 h
def tc_rpc (p x h : Nat) (A : List tc_T × Nat) : List tc_T := tc_copy p x h ++ tc_mv 19 h ++ tc_lp (tc_rpA h A)
def tc_cg (kk xx yy zz : Nat → Nat) : Nat → Nat → Nat → Nat → List tc_T × Nat
  | 0, _, _, _ => ([], 0)
  | f + 1, s, n, p =>
    if kk s = 10 then ((tc_cg kk xx yy zz f (xx s) n p).1 ++ (tc_cg kk xx yy zz f (yy s) n (tc_cg kk xx yy zz f (xx s) n p).2).1, (tc_cg kk xx yy zz f (yy s) n (tc_cg kk xx yy zz f (xx s) n p).2).2)
    else if kk s = 11 then (tc_ifc p (xx s) (6 + 2 * n) (tc_cg kk xx yy zz f (yy s) (n + 1) (6 + 2 * n)) (tc_cg kk xx yy zz f (zz s) (n + 1) (6 + 2 * n + 1)), 6 + 2 * n + 1)
    else if kk s = 12 then (tc_rpc p (xx s) (6 + 2 * n) (tc_cg kk xx yy zz f (yy s) (n + 1) (6 + 2 * n)), 6 + 2 * n)
    else tc_pl (kk s) (xx s) (yy s) (zz s) p

def tc_vp (k x y z : Nat) : Prop := x < 6 ∧ (k = 0 → y < 16) ∧ (k ≠ 0 → k ≠ 9 → y < 6) ∧ (k = 4 ∨ k = 5 ∨ k = 6 ∨ k = 13 → z < 6)
/-- the first sc statements are sound -/
def tc_vd (kk xx yy zz ww nn : Nat → Nat) (sc : Nat) : Prop := ∀ s, s < sc → (kk s ≤ 13 ∧ 1 ≤ ww s ∧ ww s ≤ 12 ∧ nn s ≤ 2) ∧
  (kk s = 10 → xx s < s ∧ yy s < s ∧ ww s = 1 + (ww (xx s) + ww (yy s)) ∧ nn (xx s) ≤ nn s ∧ nn (yy s) ≤ nn s) ∧
  (kk s = 11 → xx s < 6 ∧ yy s < s ∧ zz s < s ∧ ww s = 1 + (ww (yy s) + ww (zz s)) ∧ nn (yy s) + 1 ≤ nn s ∧ nn (zz s) + 1 ≤ nn s) ∧
  (kk s = 12 → xx s < 6 ∧ yy s < s ∧ ww s = 1 + ww (yy s) ∧ nn (yy s) + 1 ≤ nn s) ∧
  (kk s ≠ 10 → kk s ≠ 11 → kk s ≠ 12 → tc_vp (kk s) (xx s) (yy s) (zz s))

/-- neither a variable nor an element -/
def tc_fx (j : Nat) : Prop := 6 ≤ j ∧ (j < 24 ∨ j % 4 ≠ 3)

theorem tc_pe_fr {k x y z : Nat} (hx : x < 6) (m : tc_M) {j : Nat} (hj : tc_fx j) : (tc_pe k x y z m).1 j = m.1 j := by
  obtain ⟨h6, h2⟩ := hj
  unfold tc_pe
  by_cases h9 : k = 9
  · rw [if_pos h9]
  rw [if_neg h9]
  by_cases h8 : k = 8
  · rw [if_pos h8]
    show (if j = 27 + 4 * (m.1 x).val then _ else m.1 j) = m.1 j
    rw [if_neg (by omega)]
  · rw [if_neg h8]
    show (if j = x then _ else m.1 j) = m.1 j
    rw [if_neg (by omega)]
theorem tc_it_fr {g : tc_M → tc_M} {j : Nat} (hg : ∀ m, (g m).1 j = m.1 j) : ∀ n m, (tc_it g n m).1 j = m.1 j := by
  intro n
  induction n with
  | zero => intro m; rfl
  | succ n ih => intro m; exact (ih (g m)).trans (hg m)
theorem tc_fu_n {t : Nat → Fin 16} {k j : Nat} {v : Fin 16} (h : j ≠ k) : tc_fu t k v j = t j := if_neg h
theorem tc_fu_s {t : Nat → Fin 16} {k : Nat} {v : Fin 16} : tc_fu t k v k = v := if_pos rfl
theorem tc_fu_id {t : Nat → Fin 16} {k : Nat} : tc_fu t k (t k) = t := by
  funext j; grind [tc_fu]
theorem tc_fu_fu {t : Nat → Fin 16} {k : Nat} {v w : Fin 16} : tc_fu (tc_fu t k v) k w = tc_fu t k w := by
  funext j; grind [tc_fu]
theorem tc_fu_cm {t : Nat → Fin 16} {k l : Nat} {v w : Fin 16} (h : k ≠ l) : tc_fu (tc_fu t k v) l w = tc_fu (tc_fu t l w) k v := by
  funext j; grind [tc_fu]

section
variable {kk xx yy zz ww nn : Nat → Nat} {sc : Nat}
theorem tc_ev_fr (hv : tc_vd kk xx yy zz ww nn sc) {j : Nat} (hj : tc_fx j) : ∀ f s m, s < f → s < sc → (tc_ev kk xx yy zz f s m).1 j = m.1 j := by
  intro f
  induction f with
  | zero => intro s m h; omega
  | succ f ih =>
    intro s m hf hs
    obtain ⟨v0, v1, v2, v3, v4⟩ := hv s hs
    simp only [tc_ev]
    by_cases h10 : kk s = 10
    · rw [if_pos h10]
      obtain ⟨a, b, _⟩ := v1 h10
      rw [ih _ _ (by omega) (by omega), ih _ _ (by omega) (by omega)]
    rw [if_neg h10]
    by_cases h11 : kk s = 11
    · rw [if_pos h11]
      obtain ⟨a, b, c, _⟩ := v2 h11
      by_cases h0 : m.1 (xx s) = 0
      · rw [if_pos h0]; exact ih _ _ (by omega) (by omega)
      · rw [if_neg h0]; exact ih _ _ (by omega) (by omega)
    rw [if_neg h11]
    by_cases h12 : kk s = 12
    · rw [if_pos h12]
      obtain ⟨a, b, _⟩ := v3 h12
      exact tc_it_fr (fun m => ih _ m (by omega) (by omega)) _ _
    rw [if_neg h12]
    exact tc_pe_fr (v4 h10 h11 h12).1 m hj

theorem tc_pr_n (q : tc_Q) (v : Fin 16) : (tc_pr q v).1 = q.1 + 1 := rfl
theorem tc_pe_pc (k x y z : Nat) (m : tc_M) : (tc_pe k x y z m).2.1 ≤ m.2.1 + 1 := by
  unfold tc_pe
  by_cases h9 : k = 9
  · rw [if_pos h9]; exact Nat.le_refl _
  rw [if_neg h9]
  by_cases h8 : k = 8
  · rw [if_pos h8]; exact Nat.le_succ _
  · rw [if_neg h8]; exact Nat.le_succ _
theorem tc_it_pc {g : tc_M → tc_M} {B : Nat} (hg : ∀ m, (g m).2.1 ≤ m.2.1 + B) : ∀ n m, (tc_it g n m).2.1 ≤ m.2.1 + n * B := by
  intro n
  induction n with
  | zero => intro m; exact Nat.le_add_right _ _
  | succ n ih =>
    intro m
    have h1 := ih (g m)
    have h2 := hg m
    rw [Nat.succ_mul]
    show (tc_it g n (g m)).2.1 ≤ _
    omega
theorem tc_cost {w n w' n' : Nat} (hw : w ≤ w') (hn : n ≤ n') : w * 15 ^ n ≤ w' * 15 ^ n' := Nat.mul_le_mul hw (Nat.pow_le_pow_right (by decide) hn)
theorem tc_cost2 {a b n m k : Nat} (hn : n ≤ k) (hm : m ≤ k) : a * 15 ^ n + b * 15 ^ m + 15 ^ k ≤ (1 + (a + b)) * 15 ^ k := by
  have h1 := tc_cost (Nat.le_refl a) hn
  have h2 := tc_cost (Nat.le_refl b) hm
  rw [Nat.add_mul, Nat.add_mul, Nat.one_mul]
  omega
theorem tc_cost3 {a n k : Nat} (hn : n + 1 ≤ k) : 15 * (a * 15 ^ n) + 15 ^ k ≤ (1 + a) * 15 ^ k := by
  have h1 := tc_cost (Nat.le_refl a) hn
  rw [Nat.pow_succ] at h1
  rw [Nat.add_mul, Nat.one_mul]
  have : 15 * (a * 15 ^ n) = a * (15 ^ n * 15) := by rw [Nat.mul_comm, Nat.mul_assoc]
  omega
theorem tc_pow1 (k : Nat) : 1 ≤ 15 ^ k := Nat.one_le_pow _ _ (by decide)
theorem tc_ev_pc (hv : tc_vd kk xx yy zz ww nn sc) : ∀ f s m, s < f → s < sc → (tc_ev kk xx yy zz f s m).2.1 ≤ m.2.1 + ww s * 15 ^ nn s := by
  intro f
  induction f with
  | zero => intro s m h; omega
  | succ f ih =>
    intro s m hf hs
    obtain ⟨v0, v1, v2, v3, v4⟩ := hv s hs
    have hp := tc_pow1 (nn s)
    simp only [tc_ev]
    by_cases h10 : kk s = 10
    · rw [if_pos h10]
      obtain ⟨a, b, c, d, e⟩ := v1 h10
      have i1 := ih (xx s) m (by omega) (by omega)
      have i2 := ih (yy s) (tc_ev kk xx yy zz f (xx s) m) (by omega) (by omega)
      have := tc_cost2 (a := ww (xx s)) (b := ww (yy s)) d e
      rw [c]
      omega
    rw [if_neg h10]
    by_cases h11 : kk s = 11
    · rw [if_pos h11]
      obtain ⟨a, b, c, d, e, g⟩ := v2 h11
      have := tc_cost2 (a := ww (yy s)) (b := ww (zz s)) (n := nn (yy s)) (m := nn (zz s)) (k := nn s) (by omega) (by omega)
      rw [d]
      by_cases h0 : m.1 (xx s) = 0
      · rw [if_pos h0]
        have i1 := ih (zz s) m (by omega) (by omega)
        omega
      · rw [if_neg h0]
        have i1 := ih (yy s) m (by omega) (by omega)
        omega
    rw [if_neg h11]
    by_cases h12 : kk s = 12
    · rw [if_pos h12]
      obtain ⟨a, b, c, d⟩ := v3 h12
      have i1 := tc_it_pc (fun m => ih (yy s) m (by omega) (by omega)) (m.1 (xx s)).val m
      have i2 : (m.1 (xx s)).val * (ww (yy s) * 15 ^ nn (yy s)) ≤ 15 * (ww (yy s) * 15 ^ nn (yy s)) := Nat.mul_le_mul_right _ (by omega)
      have := tc_cost3 (a := ww (yy s)) d
      rw [c]
      omega
    rw [if_neg h12]
    have i1 := tc_pe_pc (kk s) (xx s) (yy s) (zz s) m
    have i2 := tc_cost v0.2.1 (Nat.le_refl (nn s))
    rw [Nat.one_mul] at i2
    omega

theorem tc_rs_cm {k x y z : Nat} (hp : tc_vp k x y z) (h9 : k ≠ 9) (h8 : k ≠ 8) (hk : k ≤ 13) (h10 : k ≠ 10) (h11 : k ≠ 11) (h12 : k ≠ 12) {t : Nat → Fin 16} {j : Nat} {v : Fin 16} (hj : tc_fx j) : tc_rs k x y z (tc_fu t j v) = tc_rs k x y z t := by
  obtain ⟨h6, h2⟩ := hj
  obtain ⟨px, p0, py, pz⟩ := hp
  have ex : tc_fu t j v x = t x := tc_fu_n (by omega)
  unfold tc_rs
  by_cases k0 : k = 0
  · rw [if_pos k0, if_pos k0]
  have ey : tc_fu t j v y = t y := tc_fu_n (by have := py k0 h9; omega)
  rw [if_neg k0, if_neg k0]
  rw [ex, ey]
  by_cases k1 : k = 1
  · rw [if_pos k1, if_pos k1]
  rw [if_neg k1, if_neg k1]
  by_cases k2 : k = 2
  · rw [if_pos k2, if_pos k2]
  rw [if_neg k2, if_neg k2]
  by_cases k3 : k = 3
  · rw [if_pos k3, if_pos k3]
  rw [if_neg k3, if_neg k3]
  by_cases k7 : k = 7
  · subst k7
    simp
    exact tc_fu_n (by have := (t y).isLt; omega)
  have ez : tc_fu t j v z = t z := tc_fu_n (by have := pz (by omega); omega)
  rw [ez, if_neg k7, if_neg k7]
theorem tc_pe_cm {k x y z : Nat} (hp : tc_vp k x y z) (hk : k ≤ 13) (h10 : k ≠ 10) (h11 : k ≠ 11) (h12 : k ≠ 12) {t : Nat → Fin 16} {q : tc_Q} {j : Nat} {v : Fin 16} (hj : tc_fx j) : tc_pe k x y z (tc_fu t j v, q) = (tc_fu (tc_pe k x y z (t, q)).1 j v, (tc_pe k x y z (t, q)).2) := by
  have hp' := hp
  obtain ⟨px, p0, py, pz⟩ := hp
  have hj' := hj
  obtain ⟨h6, h2⟩ := hj
  have ex : tc_fu t j v x = t x := tc_fu_n (by omega)
  unfold tc_pe
  by_cases h9 : k = 9
  · rw [if_pos h9, if_pos h9]
    show (tc_fu t j v, tc_pr q (tc_fu t j v x)) = (tc_fu t j v, tc_pr q (t x))
    rw [ex]
  rw [if_neg h9, if_neg h9]
  by_cases h8 : k = 8
  · rw [if_pos h8, if_pos h8]
    show (tc_fu (tc_fu t j v) (27 + 4 * (tc_fu t j v x).val) (tc_fu t j v y), q) = (tc_fu (tc_fu t (27 + 4 * (t x).val) (t y)) j v, q)
    have ey : tc_fu t j v y = t y := tc_fu_n (by have := py (by omega) h9; omega)
    have := (t x).isLt
    rw [ex, ey, tc_fu_cm (by omega)]
  rw [if_neg h8, if_neg h8]
  show (tc_fu (tc_fu t j v) x (tc_rs k x y z (tc_fu t j v)), q) = (tc_fu (tc_fu t x (tc_rs k x y z t)) j v, q)
  rw [tc_rs_cm hp' h9 h8 hk h10 h11 h12 hj', tc_fu_cm (by omega)]
theorem tc_it_cm {g : tc_M → tc_M} {j : Nat} {v : Fin 16} (hg : ∀ t q, g (tc_fu t j v, q) = (tc_fu (g (t, q)).1 j v, (g (t, q)).2)) : ∀ n t q, tc_it g n (tc_fu t j v, q) = (tc_fu (tc_it g n (t, q)).1 j v, (tc_it g n (t, q)).2) := by
  intro n
  induction n with
  | zero => intro t q; rfl
  | succ n ih =>
    intro t q
    show tc_it g n (g (tc_fu t j v, q)) = (tc_fu (tc_it g n (g (t, q))).1 j v, (tc_it g n (g (t, q))).2)
    rw [hg, ih]
theorem tc_ev_cm (hv : tc_vd kk xx yy zz ww nn sc) {j : Nat} {v : Fin 16} (hj : tc_fx j) : ∀ f s t q, s < f → s < sc → tc_ev kk xx yy zz f s (tc_fu t j v, q) = (tc_fu (tc_ev kk xx yy zz f s (t, q)).1 j v, (tc_ev kk xx yy zz f s (t, q)).2) := by
  intro f
  induction f with
  | zero => intro s t q h; omega
  | succ f ih =>
    intro s t q hf hs
    obtain ⟨v0, v1, v2, v3, v4⟩ := hv s hs
    have h6 := hj.1
    simp only [tc_ev]
    by_cases h10 : kk s = 10
    · simp only [if_pos h10]
      obtain ⟨a, b, _⟩ := v1 h10
      rw [ih _ _ _ (by omega) (by omega), ih _ _ _ (by omega) (by omega)]
    simp only [if_neg h10]
    by_cases h11 : kk s = 11
    · simp only [if_pos h11]
      obtain ⟨a, b, c, _⟩ := v2 h11
      have ex : tc_fu t j v (xx s) = t (xx s) := tc_fu_n (by omega)
      by_cases h0 : t (xx s) = 0
      · simp only [if_pos h0, if_pos (ex.trans h0)]; exact ih _ _ _ (by omega) (by omega)
      · simp only [if_neg h0, if_neg (fun z => h0 (ex.symm.trans z))]; exact ih _ _ _ (by omega) (by omega)
    simp only [if_neg h11]
    by_cases h12 : kk s = 12
    · simp only [if_pos h12]
      obtain ⟨a, b, _⟩ := v3 h12
      have ex : tc_fu t j v (xx s) = t (xx s) := tc_fu_n (by omega)
      rw [ex]
      exact tc_it_cm (fun t q => ih _ t q (by omega) (by omega)) _ _ _
    simp only [if_neg h12]
    exact tc_pe_cm (v4 h10 h11 h12) v0.1 h10 h11 h12 hj
end
end
section
/-! the code of a statement does what the statement means -/
theorem tc_bl_pl (k x y z p : Nat) : tc_bl (tc_pl k x y z p).1 := by
  unfold tc_pl
  by_cases h0 : k = 0
  · rw [if_pos h0]
    show tc_bl (tc_set p x y)
    unfold tc_set
    by_cases hy : y = 0
    · rw [if_pos hy]; exact (tc_bl_clear _ _).app tc_bl_nil
    · rw [if_neg hy]; exact (tc_bl_clear _ _).app (tc_bl_a _)
  rw [if_neg h0]
  by_cases h1 : k = 1
  · rw [if_pos h1]; exact (tc_bl_copy _ _ _).app (tc_bl_repl _ _ _)
  rw [if_neg h1]
  by_cases h2 : k = 2
  · rw [if_pos h2]; exact (tc_bl_copy _ _ _).app (tc_bl_carry _ _ _)
  rw [if_neg h2]
  by_cases h3 : k = 3
  · rw [if_pos h3]; exact ((tc_bl_copy _ _ _).app (tc_bl_mv _ _)).app (tc_bl_lp ((((tc_bl_a _).app (tc_bl_mv _ _)).app (tc_bl_a _)).app (tc_bl_mv _ _)))
  rw [if_neg h3]
  by_cases h4 : k = 4
  · rw [if_pos h4]; exact (((((tc_bl_copy _ _ _).app (tc_bl_copy _ _ _)).app (tc_bl_mv _ _)).app (tc_bl_lp (((tc_bl_a _).app (tc_bl_copy _ _ _)).app (tc_bl_mv _ _)))).app (tc_bl_clear _ _)).app (tc_bl_repl _ _ _)
  rw [if_neg h4]
  by_cases h5 : k = 5
  · rw [if_pos h5]; exact (((((tc_bl_copy _ _ _).app (tc_bl_copy _ _ _)).app (tc_bl_mv _ _)).app (tc_bl_lp tc_bl_lessL)).app (tc_bl_clear _ _)).app (tc_bl_repl _ _ _)
  rw [if_neg h5]
  by_cases h6 : k = 6
  · rw [if_pos h6]
    have hd : tc_bl (tc_diff p y z) := (((tc_bl_copy _ _ _).app (tc_bl_copy _ _ _)).app (tc_bl_mv _ _)).app (tc_bl_lp ((((tc_bl_a _).app (tc_bl_mv _ _)).app (tc_bl_a _)).app (tc_bl_mv _ _)))
    exact ((((hd.app (tc_bl_mv _ _)).app (tc_bl_a _)).app (tc_bl_mv _ _)).app (tc_bl_lp ((((tc_bl_clear _ _).app (tc_bl_mv _ _)).app (tc_bl_a _)).app (tc_bl_mv _ _)))).app (tc_bl_repl _ _ _)
  rw [if_neg h6]
  have hout : tc_bl tc_out := tc_bl_lp tc_bl_outL
  have hback : tc_bl tc_back := (tc_bl_m _).app (tc_bl_lp tc_bl_backL)
  by_cases h7 : k = 7
  · rw [if_pos h7]
    have hpick : tc_bl tc_pick := (((tc_bl_m _).app (tc_bl_lp tc_bl_pickL)).app (tc_bl_m _)).app (tc_bl_sh _)
    exact (((((tc_bl_copy _ _ _).app (tc_bl_mv _ _)).app hout).app hpick).app hback).app (tc_bl_repl _ _ _)
  rw [if_neg h7]
  by_cases h8 : k = 8
  · rw [if_pos h8]
    exact (((((((((tc_bl_copy _ _ _).app (tc_bl_copy _ _ _)).app (tc_bl_mv _ _)).app hout).app (tc_bl_m _)).app (tc_bl_lp (tc_bl_a _))).app (tc_bl_m _)).app (tc_bl_sh _)).app (tc_bl_m _)).app hback
  rw [if_neg h8]
  by_cases h9 : k = 9
  · rw [if_pos h9]; exact (tc_bl_mv _ _).app (tc_bl_p _)
  rw [if_neg h9]
  exact (((tc_bl_copy _ _ _).app (tc_bl_mv _ _)).app (tc_bl_lp (tc_bl_quoM _ _))).app (tc_bl_repl _ _ _)

theorem tc_pl_pos (k x y z p : Nat) : 1 ≤ (tc_pl k x y z p).1.length := by
  have hlp : ∀ B : List tc_T, 1 ≤ (tc_lp B).length := fun B => by rw [tc_lp_len]; omega
  have hcp : ∀ p a b, 1 ≤ (tc_copy p a b).length := fun p a b => by
    simp only [tc_copy, tc_lp_len, List.length_append]; omega
  unfold tc_pl
  by_cases h0 : k = 0
  · rw [if_pos h0]
    simp only [tc_set, tc_clear, tc_lp_len, List.length_append]; omega
  rw [if_neg h0]
  by_cases h1 : k = 1
  · rw [if_pos h1]; have := hcp p y 10; simp only [List.length_append]; omega
  rw [if_neg h1]
  by_cases h2 : k = 2
  · rw [if_pos h2]; have := hcp p y 10; simp only [List.length_append]; omega
  rw [if_neg h2]
  by_cases h3 : k = 3
  · rw [if_pos h3]; have := hcp p y 10; simp only [tc_sub, List.length_append]; omega
  rw [if_neg h3]
  by_cases h4 : k = 4
  · rw [if_pos h4]; have := hcp p y 10; simp only [tc_prod, List.length_append]; omega
  rw [if_neg h4]
  by_cases h5 : k = 5
  · rw [if_pos h5]; have := hcp p y 10; simp only [tc_less, List.length_append]; omega
  rw [if_neg h5]
  by_cases h6 : k = 6
  · rw [if_pos h6]; have := hcp p y 10; simp only [tc_same, tc_diff, List.length_append]; omega
  rw [if_neg h6]
  by_cases h7 : k = 7
  · rw [if_pos h7]; have := hcp p y 25; simp only [tc_get, List.length_append]; omega
  rw [if_neg h7]
  by_cases h8 : k = 8
  · rw [if_pos h8]; have := hcp p x 25; simp only [tc_put, List.length_append]; omega
  rw [if_neg h8]
  by_cases h9 : k = 9
  · rw [if_pos h9]; simp only [List.length_append, List.length_cons, List.length_nil]; omega
  rw [if_neg h9]
  have := hcp p z 15; simp only [tc_quot, List.length_append]; omega

theorem tc_pl_at (k : Nat) {x : Nat} (y z p : Nat) (hx : x < 6) : (tc_pl k x y z p).2 < 96 := by
  unfold tc_pl
  repeat' split
  all_goals (dsimp only; omega)

theorem tc_Ex_pl {k x y z p : Nat} {t : Nat → Fin 16} {q : tc_Q} (hk : k ≤ 13) (h10 : k ≠ 10) (h11 : k ≠ 11) (h12 : k ≠ 12) (hp : tc_vp k x y z) (hw : tc_Zw t) (ha : tc_Za t) (hq : q.1 < 100000) : tc_Ex (tc_pl k x y z p).1 (p, t, q) ((tc_pl k x y z p).2, tc_pe k x y z (t, q)) := by
  obtain ⟨px, p0, py, pz⟩ := hp
  unfold tc_pl tc_pe tc_rs
  by_cases h0 : k = 0
  · subst h0
    exact tc_Ex_set px (p0 rfl)
  by_cases h9 : k = 9
  · subst h9
    exact tc_Ex_mv.app (tc_Ex_pr (by omega) hq)
  have hy := py h0 h9
  by_cases h1 : k = 1
  · subst h1
    exact tc_Ex_cpy px hy hw
  by_cases h2 : k = 2
  · subst h2
    exact tc_Ex_add px hy hw
  by_cases h3 : k = 3
  · subst h3
    exact tc_Ex_sub px hy hw
  by_cases h7 : k = 7
  · subst h7
    exact tc_Ex_get px hy hw ha
  by_cases h8 : k = 8
  · subst h8
    exact tc_Ex_put px hy hw ha
  have hz := pz (by omega)
  by_cases h4 : k = 4
  · subst h4
    exact tc_Ex_prod px hy hz hw
  by_cases h5 : k = 5
  · subst h5
    exact tc_Ex_less px hy hz hw
  by_cases h6 : k = 6
  · subst h6
    exact tc_Ex_same px hy hz hw
  have h13 : k = 13 := by omega
  subst h13
  exact tc_Ex_quot px hy hz hw

section
variable {kk xx yy zz ww nn : Nat → Nat} {sc : Nat}
theorem tc_bl_cg : ∀ f s n p, tc_bl (tc_cg kk xx yy zz f s n p).1 := by
  intro f
  induction f with
  | zero => intro s n p; exact tc_bl_nil
  | succ f ih =>
    intro s n p
    simp only [tc_cg]
    by_cases h10 : kk s = 10
    · rw [if_pos h10]; exact (ih _ _ _).app (ih _ _ _)
    rw [if_neg h10]
    by_cases h11 : kk s = 11
    · rw [if_pos h11]
      exact ((((((tc_bl_copy _ _ _).app (tc_bl_mv _ _)).app (tc_bl_a _)).app (tc_bl_mv _ _)).app (tc_bl_lp (((((ih _ _ _).app (tc_bl_clear _ _)).app (tc_bl_mv _ _)).app (tc_bl_a _)).app (tc_bl_mv _ _)))).app (tc_bl_mv _ _)).app (tc_bl_lp (((ih _ _ _).app (tc_bl_mv _ _)).app (tc_bl_a _)))
    rw [if_neg h11]
    by_cases h12 : kk s = 12
    · rw [if_pos h12]
      exact ((tc_bl_copy _ _ _).app (tc_bl_mv _ _)).app (tc_bl_lp (((tc_bl_a _).app (ih _ _ _)).app (tc_bl_mv _ _)))
    rw [if_neg h12]
    exact tc_bl_pl _ _ _ _ _
theorem tc_cg_len (hv : tc_vd kk xx yy zz ww nn sc) : ∀ f s n p, s < f → s < sc → 1 ≤ (tc_cg kk xx yy zz f s n p).1.length ∧ (tc_cg kk xx yy zz f s n p).1.length ≤ 150 * ww s := by
  intro f
  induction f with
  | zero => intro s n p h; omega
  | succ f ih =>
    intro s n p hf hs
    obtain ⟨v0, v1, v2, v3, v4⟩ := hv s hs
    simp only [tc_cg]
    by_cases h10 : kk s = 10
    · rw [if_pos h10]
      obtain ⟨a, b, c, d, e⟩ := v1 h10
      have i1 := ih (xx s) n p (by omega) (by omega)
      have i2 := ih (yy s) n (tc_cg kk xx yy zz f (xx s) n p).2 (by omega) (by omega)
      simp only [List.length_append]
      omega
    rw [if_neg h10]
    by_cases h11 : kk s = 11
    · rw [if_pos h11]
      obtain ⟨a, b, c, d, e, g⟩ := v2 h11
      have i1 := ih (yy s) (n + 1) (6 + 2 * n) (by omega) (by omega)
      have i2 := ih (zz s) (n + 1) (6 + 2 * n + 1) (by omega) (by omega)
      have l1 := tc_copy_len p (xx s) (6 + 2 * n)
      have l2 := tc_mv_len 19 (6 + 2 * n + 1)
      have l3 := tc_mv_len (6 + 2 * n + 1) (6 + 2 * n)
      have l4 := tc_mv_len (6 + 2 * n) (6 + 2 * n + 1)
      have l5 := tc_clear_len (tc_cg kk xx yy zz f (yy s) (n + 1) (6 + 2 * n)).2 (6 + 2 * n)
      have l6 := tc_mv_len (tc_cg kk xx yy zz f (zz s) (n + 1) (6 + 2 * n + 1)).2 (6 + 2 * n + 1)
      simp only [tc_ifc, tc_ifA, tc_ifB, tc_lp_len, List.length_append, List.length_cons, List.length_nil]
      omega
    rw [if_neg h11]
    by_cases h12 : kk s = 12
    · rw [if_pos h12]
      obtain ⟨a, b, c, d⟩ := v3 h12
      have i1 := ih (yy s) (n + 1) (6 + 2 * n) (by omega) (by omega)
      have l1 := tc_copy_len p (xx s) (6 + 2 * n)
      have l2 := tc_mv_len 19 (6 + 2 * n)
      have l6 := tc_mv_len (tc_cg kk xx yy zz f (yy s) (n + 1) (6 + 2 * n)).2 (6 + 2 * n)
      simp only [tc_rpc, tc_rpA, tc_lp_len, List.length_append, List.length_cons, List.length_nil]
      omega
    rw [if_neg h12]
    have := tc_pl_len (kk s) (xx s) (yy s) (zz s) p
    have := tc_pl_pos (kk s) (xx s) (yy s) (zz s) p
    omega
theorem tc_cg_at (hv : tc_vd kk xx yy zz ww nn sc) : ∀ f s n p, s < f → s < sc → n + nn s ≤ 2 → (tc_cg kk xx yy zz f s n p).2 < 96 := by
  intro f
  induction f with
  | zero => intro s n p h; omega
  | succ f ih =>
    intro s n p hf hs hn
    obtain ⟨v0, v1, v2, v3, v4⟩ := hv s hs
    simp only [tc_cg]
    by_cases h10 : kk s = 10
    · rw [if_pos h10]
      obtain ⟨a, b, c, d, e⟩ := v1 h10
      exact ih (yy s) n _ (by omega) (by omega) (by omega)
    rw [if_neg h10]
    by_cases h11 : kk s = 11
    · rw [if_pos h11]
      obtain ⟨a, b, c, d, e, g⟩ := v2 h11
      show 6 + 2 * n + 1 < 96
      omega
    rw [if_neg h11]
    by_cases h12 : kk s = 12
    · rw [if_pos h12]
      obtain ⟨a, b, c, d⟩ := v3 h12
      show 6 + 2 * n < 96
      omega
    rw [if_neg h12]
    exact tc_pl_at _ _ _ _ (v4 h10 h11 h12).1

/-- the tape between statements at nesting n -/
def tc_Zn (n : Nat) (t : Nat → Fin 16) : Prop := (∀ j, 6 + 2 * n ≤ j → j < 24 → t j = 0) ∧ tc_Za t
theorem tc_Zn_w {n : Nat} {t : Nat → Fin 16} (hn : n ≤ 2) (h : tc_Zn n t) : tc_Zw t :=
  ⟨h.1 10 (by omega) (by decide), h.1 11 (by omega) (by decide), h.1 12 (by omega) (by decide), h.1 13 (by omega) (by decide), h.1 14 (by omega) (by decide), h.1 15 (by omega) (by decide), h.1 19 (by omega) (by decide)⟩
theorem tc_Zn_ev (hv : tc_vd kk xx yy zz ww nn sc) {n f s : Nat} {m : tc_M} (hf : s < f) (hs : s < sc) (h : tc_Zn n m.1) : tc_Zn n (tc_ev kk xx yy zz f s m).1 := by
  refine ⟨fun j hj hj' => ?_, fun i hi => ?_⟩
  · rw [tc_ev_fr hv ⟨by omega, Or.inl hj'⟩ f s m hf hs]; exact h.1 j hj hj'
  · obtain ⟨a, b, c⟩ := h.2 i hi
    rw [tc_ev_fr hv ⟨by omega, Or.inr (by omega)⟩ f s m hf hs, tc_ev_fr hv ⟨by omega, Or.inr (by omega)⟩ f s m hf hs, tc_ev_fr hv ⟨by omega, Or.inr (by omega)⟩ f s m hf hs]
    exact ⟨a, b, c⟩
theorem tc_Zn_up {n : Nat} {t : Nat → Fin 16} (h : tc_Zn n t) : tc_Zn (n + 1) t := ⟨fun j hj hj' => h.1 j (by omega) hj', h.2⟩
theorem tc_Zn_fu {n j : Nat} {t : Nat → Fin 16} {v : Fin 16} (hj : j < 24) (hn : j < 6 + 2 * n) (h : tc_Zn n t) : tc_Zn n (tc_fu t j v) := by
  refine ⟨fun i hi hi' => ?_, fun i hi => ?_⟩
  · rw [tc_fu_n (by omega)]; exact h.1 i hi hi'
  · rw [tc_fu_n (by omega), tc_fu_n (by omega), tc_fu_n (by omega)]; exact h.2 i hi
end
end
section
/-! the code of a whole statement -/
section
variable {kk xx yy zz ww nn : Nat → Nat} {sc : Nat}
/-- the code A of a part, compiled at nesting n, does g -/
def tc_Do (n p : Nat) (A : List tc_T × Nat) (g : tc_M → tc_M) (c : Nat) : Prop := ∀ t q, tc_Zn n t → q.1 + c ≤ 100000 → tc_Ex A.1 (p, t, q) (A.2, g (t, q))
/-- g leaves what is neither a variable nor an element, and doesn't look at it -/
def tc_Fr (g : tc_M → tc_M) (c : Nat) : Prop := (∀ j m, tc_fx j → (g m).1 j = m.1 j) ∧ (∀ j t q v, tc_fx j → g (tc_fu t j v, q) = (tc_fu (g (t, q)).1 j v, (g (t, q)).2)) ∧ (∀ m, (g m).2.1 ≤ m.2.1 + c)
theorem tc_Fr_Z {g : tc_M → tc_M} {c n : Nat} {m : tc_M} (hg : tc_Fr g c) (h : tc_Zn n m.1) : tc_Zn n (g m).1 := by
  refine ⟨fun j hj hj' => ?_, fun i hi => ?_⟩
  · rw [hg.1 j m ⟨by omega, Or.inl hj'⟩]; exact h.1 j hj hj'
  · obtain ⟨a, b, c⟩ := h.2 i hi
    rw [hg.1 _ m ⟨by omega, Or.inr (by omega)⟩, hg.1 _ m ⟨by omega, Or.inr (by omega)⟩, hg.1 _ m ⟨by omega, Or.inr (by omega)⟩]
    exact ⟨a, b, c⟩

theorem tc_Lq_rp {n : Nat} {A : List tc_T × Nat} {g : tc_M → tc_M} {c : Nat} (hn : n ≤ 1) (hA : tc_Do (n + 1) (6 + 2 * n) A g c) (hg : tc_Fr g c) (hb : tc_bl A.1) (hl : 1 ≤ A.1.length) :
    ∀ (k : Nat) (v : Fin 16) (t : Nat → Fin 16) (q : tc_Q), v.val = k → tc_Zn n t → q.1 + k * c ≤ 100000 →
      tc_Lq (tc_rpA (6 + 2 * n) A) (6 + 2 * n, tc_fu t (6 + 2 * n) v, q) (6 + 2 * n, tc_it g k (t, q)) := by
  have hB : tc_bl (tc_rpA (6 + 2 * n) A) := ((tc_bl_a _).app hb).app (tc_bl_mv _ _)
  have hN : (tc_rpA (6 + 2 * n) A).length ≠ 1 := by
    simp only [tc_rpA, List.length_append, List.length_cons, List.length_nil]; omega
  intro k
  induction k with
  | zero =>
    intro v t q hv hz hq
    have h0 := tc_z hv
    subst h0
    have e : tc_fu t (6 + 2 * n) 0 = t := by
      have := hz.1 (6 + 2 * n) (by omega) (by omega)
      rw [← this]; exact tc_fu_id
    rw [e]
    exact tc_Lq_0 hB (by omega) (hz.1 _ (by omega) (by omega))
  | succ k ih =>
    intro v t q hv hz hq
    rw [Nat.succ_mul] at hq
    have hfx : tc_fx (6 + 2 * n) := ⟨by omega, Or.inl (by omega)⟩
    have h1 := hA (tc_fu t (6 + 2 * n) (v + 15)) q (tc_Zn_fu (by omega) (by omega) (tc_Zn_up hz)) (by omega)
    rw [hg.2.1 _ _ _ _ hfx] at h1
    have h2 := ih (v + 15) (g (t, q)).1 (g (t, q)).2 (tc_dec hv) (tc_Fr_Z (m := (t, q)) hg hz) (by have := hg.2.2 (t, q); dsimp only at this; omega)
    refine tc_Lq_1 hB hN (by omega) (by rw [tc_fu_s]; exact tc_nz hv) (((tc_Ex_dn (by omega)).app ?_).app tc_Ex_mv) h2
    rw [tc_fu_s, tc_fu_fu]
    exact h1

theorem tc_Ex_rp {n p x : Nat} {A : List tc_T × Nat} {g : tc_M → tc_M} {c : Nat} {t : Nat → Fin 16} {q : tc_Q} (hn : n ≤ 1) (hx : x < 6) (hA : tc_Do (n + 1) (6 + 2 * n) A g c) (hg : tc_Fr g c) (hb : tc_bl A.1) (hl : 1 ≤ A.1.length) (hz : tc_Zn n t) (hq : q.1 + 15 * c ≤ 100000) :
    tc_Ex (tc_rpc p x (6 + 2 * n) A) (p, t, q) (6 + 2 * n, tc_it g (t x).val (t, q)) := by
  have hh := hz.1 (6 + 2 * n) (by omega) (by omega)
  have hc : (t x).val * c ≤ 15 * c := Nat.mul_le_mul_right _ (by have := (t x).isLt; omega)
  refine ((tc_Ex_copy (by omega) (by omega) (by omega) (by omega) (by omega) (hz.1 19 (by omega) (by decide))).app tc_Ex_mv).app ?_
  rw [hh, show (0 : Fin 16) + t x = t x by grind]
  exact (tc_Lq_rp hn hA hg hb hl _ _ _ _ rfl hz (by omega)).1

theorem tc_Ex_if {n p x : Nat} {A B : List tc_T × Nat} {g g' : tc_M → tc_M} {c c' : Nat} {t : Nat → Fin 16} {q : tc_Q} (hn : n ≤ 1) (hx : x < 6) (hA : tc_Do (n + 1) (6 + 2 * n) A g c) (hg : tc_Fr g c) (hb : tc_bl A.1)
    (hA' : tc_Do (n + 1) (6 + 2 * n + 1) B g' c') (hg' : tc_Fr g' c') (hb' : tc_bl B.1) (hl' : 1 ≤ B.1.length) (hz : tc_Zn n t) (hq : q.1 + c ≤ 100000) (hq' : q.1 + c' ≤ 100000) :
    tc_Ex (tc_ifc p x (6 + 2 * n) A B) (p, t, q) (6 + 2 * n + 1, if t x = 0 then g' (t, q) else g (t, q)) := by
  have hh := hz.1 (6 + 2 * n) (by omega) (by omega)
  have hh1 := hz.1 (6 + 2 * n + 1) (by omega) (by omega)
  have f0 : tc_fx (6 + 2 * n) := ⟨by omega, Or.inl (by omega)⟩
  have f1 : tc_fx (6 + 2 * n + 1) := ⟨by omega, Or.inl (by omega)⟩
  have hBA : tc_bl (tc_ifA (6 + 2 * n) A) := (((hb.app (tc_bl_clear _ _)).app (tc_bl_mv _ _)).app (tc_bl_a _)).app (tc_bl_mv _ _)
  have hBB : tc_bl (tc_ifB (6 + 2 * n) B) := (hb'.app (tc_bl_mv _ _)).app (tc_bl_a _)
  have hNA : (tc_ifA (6 + 2 * n) A).length ≠ 1 := by
    simp only [tc_ifA, tc_clear, tc_lp_len, List.length_append, List.length_cons, List.length_nil]; omega
  have hNB : (tc_ifB (6 + 2 * n) B).length ≠ 1 := by
    simp only [tc_ifB, List.length_append, List.length_cons, List.length_nil]; omega
  have H := (((tc_Ex_copy (p := p) (a := x) (b := 6 + 2 * n) (t := t) (q := q) (by omega) (by omega) (by omega) (by omega) (by omega) (hz.1 19 (by omega) (by decide))).app (tc_Ex_mv (p' := 6 + 2 * n + 1))).app (tc_Ex_up (by omega))).app (tc_Ex_mv (p' := 6 + 2 * n))
  have H' := H.ct (t' := tc_fu (tc_fu t (6 + 2 * n) (t x)) (6 + 2 * n + 1) 1) (by
    generalize 6 + 2 * n = h at *
    funext j; grind [tc_fu])
  by_cases h0 : t x = 0
  · rw [if_pos h0]
    have e1 : tc_fu (tc_fu t (6 + 2 * n) (t x)) (6 + 2 * n + 1) 1 = tc_fu t (6 + 2 * n + 1) 1 := by
      rw [h0, ← hh, tc_fu_id]
    rw [e1] at H'
    have L1 : tc_Lq (tc_ifA (6 + 2 * n) A) (6 + 2 * n, tc_fu t (6 + 2 * n + 1) 1, q) (6 + 2 * n, tc_fu t (6 + 2 * n + 1) 1, q) := tc_Lq_0 hBA (by omega) (by rw [tc_fu_n (by omega)]; exact hh)
    have b1 := hA' (tc_fu t (6 + 2 * n + 1) 1) q (tc_Zn_fu (by omega) (by omega) (tc_Zn_up hz)) hq'
    rw [hg'.2.1 _ _ _ _ f1] at b1
    have e2 : tc_fu (tc_fu (g' (t, q)).1 (6 + 2 * n + 1) 1) (6 + 2 * n + 1) ((tc_fu (g' (t, q)).1 (6 + 2 * n + 1) 1) (6 + 2 * n + 1) + 15) = (g' (t, q)).1 := by
      rw [tc_fu_s, tc_fu_fu, show (1 : Fin 16) + 15 = 0 by decide]
      have := hg'.1 _ (t, q) f1
      dsimp only at this
      rw [hh1] at this
      rw [← this]
      exact tc_fu_id
    have b2 : tc_Ex (tc_ifB (6 + 2 * n) B) (6 + 2 * n + 1, tc_fu t (6 + 2 * n + 1) 1, q) (6 + 2 * n + 1, (g' (t, q)).1, (g' (t, q)).2) := ((b1.app tc_Ex_mv).app (tc_Ex_dn (by omega))).ct e2
    have L2 := tc_Lq_1 hBB hNB (by omega) (by rw [tc_fu_s]; decide) b2 (tc_Lq_0 hBB (by omega) (by rw [hg'.1 _ _ f1]; exact hh1))
    exact ((H'.app L1.1).app tc_Ex_mv).app L2.1
  · rw [if_neg h0]
    have b1 := hA (tc_fu (tc_fu t (6 + 2 * n) (t x)) (6 + 2 * n + 1) 1) q (tc_Zn_fu (by omega) (by omega) (tc_Zn_fu (by omega) (by omega) (tc_Zn_up hz))) hq
    rw [hg.2.1 _ _ _ _ f1, hg.2.1 _ _ _ _ f0] at b1
    have c0 := hg.1 _ (t, q) f0
    have c1 := hg.1 _ (t, q) f1
    dsimp only at c0 c1 b1
    rw [hh] at c0
    rw [hh1] at c1
    have b2 : tc_Ex (tc_ifA (6 + 2 * n) A) (6 + 2 * n, tc_fu (tc_fu t (6 + 2 * n) (t x)) (6 + 2 * n + 1) 1, q) (6 + 2 * n, (g (t, q)).1, (g (t, q)).2) := by
      refine ((((b1.app (tc_Ex_clear (by omega))).app tc_Ex_mv).app (tc_Ex_dn (by omega))).app tc_Ex_mv).ct ?_
      generalize 6 + 2 * n = h at *
      generalize (g (t, q)).1 = T at *
      funext j; grind [tc_fu]
    have L1 := tc_Lq_1 hBA hNA (by omega) (by rw [tc_fu_n (by omega), tc_fu_s]; exact h0) b2 (tc_Lq_0 hBA (by omega) c0)
    have L2 : tc_Lq (tc_ifB (6 + 2 * n) B) (6 + 2 * n + 1, (g (t, q)).1, (g (t, q)).2) (6 + 2 * n + 1, (g (t, q)).1, (g (t, q)).2) := tc_Lq_0 hBB (by omega) c1
    exact ((H'.app L1.1).app tc_Ex_mv).app L2.1

theorem tc_Fr_ev (hv : tc_vd kk xx yy zz ww nn sc) {f s : Nat} (hf : s < f) (hs : s < sc) : tc_Fr (tc_ev kk xx yy zz f s) (ww s * 15 ^ nn s) :=
  ⟨fun j m hj => tc_ev_fr hv hj f s m hf hs, fun j t q v hj => tc_ev_cm hv hj f s t q hf hs, fun m => tc_ev_pc hv f s m hf hs⟩

theorem tc_Do_cg (hv : tc_vd kk xx yy zz ww nn sc) : ∀ f s n p, s < f → s < sc → n + nn s ≤ 2 → tc_Do n p (tc_cg kk xx yy zz f s n p) (tc_ev kk xx yy zz f s) (ww s * 15 ^ nn s) := by
  intro f
  induction f with
  | zero => intro s n p h; omega
  | succ f ih =>
    intro s n p hf hs hn t q hz hq
    obtain ⟨v0, v1, v2, v3, v4⟩ := hv s hs
    have hp1 := tc_pow1 (nn s)
    simp only [tc_cg, tc_ev]
    by_cases h10 : kk s = 10
    · rw [if_pos h10, if_pos h10]
      obtain ⟨a, b, c, d, e⟩ := v1 h10
      have cc := tc_cost2 (a := ww (xx s)) (b := ww (yy s)) d e
      rw [c] at hq
      have i1 := ih (xx s) n p (by omega) (by omega) (by omega) t q hz (by omega)
      have F := tc_Fr_ev hv (f := f) (s := xx s) (by omega) (by omega)
      have hpc := F.2.2 (t, q)
      dsimp only at hpc
      have i2 := ih (yy s) n (tc_cg kk xx yy zz f (xx s) n p).2 (by omega) (by omega) (by omega) (tc_ev kk xx yy zz f (xx s) (t, q)).1 (tc_ev kk xx yy zz f (xx s) (t, q)).2 (tc_Fr_Z (m := (t, q)) F hz) (by omega)
      exact i1.app i2
    rw [if_neg h10, if_neg h10]
    by_cases h11 : kk s = 11
    · rw [if_pos h11, if_pos h11]
      obtain ⟨a, b, c, d, e, g⟩ := v2 h11
      have cc := tc_cost2 (a := ww (yy s)) (b := ww (zz s)) (n := nn (yy s)) (m := nn (zz s)) (k := nn s) (by omega) (by omega)
      rw [d] at hq
      exact tc_Ex_if (by omega) a (ih (yy s) (n + 1) _ (by omega) (by omega) (by omega)) (tc_Fr_ev hv (by omega) (by omega)) (tc_bl_cg _ _ _ _)
        (ih (zz s) (n + 1) _ (by omega) (by omega) (by omega)) (tc_Fr_ev hv (by omega) (by omega)) (tc_bl_cg _ _ _ _) (tc_cg_len hv _ _ _ _ (by omega) (by omega)).1 hz (by omega) (by omega)
    rw [if_neg h11, if_neg h11]
    by_cases h12 : kk s = 12
    · rw [if_pos h12, if_pos h12]
      obtain ⟨a, b, c, d⟩ := v3 h12
      have cc := tc_cost3 (a := ww (yy s)) d
      rw [c] at hq
      exact tc_Ex_rp (by omega) a (ih (yy s) (n + 1) _ (by omega) (by omega) (by omega)) (tc_Fr_ev hv (by omega) (by omega)) (tc_bl_cg _ _ _ _) (tc_cg_len hv _ _ _ _ (by omega) (by omega)).1 hz (by omega)
    rw [if_neg h12, if_neg h12]
    have i2 := tc_cost v0.2.1 (Nat.le_refl (nn s))
    rw [Nat.one_mul] at i2
    exact tc_Ex_pl v0.1 h10 h11 h12 (v4 h10 h11 h12) (tc_Zn_w (by omega) hz) hz.2 (by omega)
end
end
section
/-! the printed machine keeps the rules -/
theorem tc_hz_b (o : Nat → Int32) : ∀ j : Nat, -(j : Int) ≤ tc_hz o j ∧ tc_hz o j ≤ (j : Int) := by
  intro j
  induction j with
  | zero => exact ⟨by simp [tc_hz], by simp [tc_hz]⟩
  | succ j ih =>
    simp only [tc_hz]
    by_cases h2 : o j = 2
    · rw [if_pos h2]; omega
    · rw [if_neg h2]
      by_cases h3 : o j = 3
      · rw [if_pos h3]; omega
      · rw [if_neg h3]; omega

section
variable {f1 f2 f3 f4 f5 f6 f7 f8 : Int32} {a1 a2 a3 a4 a5 a6 o nu a9 a10 a11 a12 a13 : Nat → Int32}
theorem tc_endOf_i {post : Int32 → Prop} {j k : Nat} (hm : tc_mt o nu j k) (hk : k < 2400) (hp : post (nI k)) : ∀ d i, j ≤ i → i ≤ k → k - i = d → ∃ n, wX_endOf_4 post f1 f2 f3 f4 f5 f6 f7 f8 a1 a2 a3 a4 a5 a6 o nu a9 a10 a11 a12 a13 n (nI (tc_hz o (i + 1) - tc_hz o j).toNat) (nI i) := by
  obtain ⟨m1, m2, m3, m4, m5, m6, m7⟩ := hm
  intro d
  induction d with
  | zero =>
    intro i hi hik hd
    have : i = k := by omega
    subst this
    refine ⟨1, ?_⟩
    rw [m6, Int.sub_self]
    exact br_t (by decide) hp
  | succ d ih =>
    intro i hi hik hd
    obtain ⟨n, hn⟩ := ih (i + 1) (by omega) (by omega) (by omega)
    have hpos := m7 (i + 1) (by omega) (by omega)
    have b1 := tc_hz_b o (i + 1)
    have b2 := tc_hz_b o j
    have hin : vp_in (nI (i + 1)) 2400 := vp_in_nI (by omega) (by decide)
    have hcl : o (nI (i + 1)).toNatClampNeg = o (i + 1) := by rw [nI_clamp (by omega)]
    refine ⟨n + 1, br_f (nI_nle (by omega) (by omega)) (nm_r (nI_1 i) (And.intro hin ?_))⟩
    rw [hcl]
    by_cases h2 : o (i + 1) = 2
    · refine br_t h2 (nm_r (nI_1 _) ?_)
      refine And.intro hin ?_
      rw [hcl]
      refine br_f (by rw [h2]; decide) ?_
      have e : (tc_hz o (i + 1) - tc_hz o j).toNat + 1 = (tc_hz o (i + 1 + 1) - tc_hz o j).toNat := by
        rw [tc_hz2 h2]; omega
      rw [e]; exact hn
    · refine br_f h2 ?_
      refine And.intro hin ?_
      rw [hcl]
      by_cases h3 : o (i + 1) = 3
      · have e : (tc_hz o (i + 1) - tc_hz o j).toNat = (tc_hz o (i + 1 + 1) - tc_hz o j).toNat + 1 := by
          rw [tc_hz3 h3]; omega
        rw [e]
        exact br_t h3 (nm_r (pk_m1 _) hn)
      · refine br_f h3 ?_
        rw [← tc_hz0 h2 h3]; exact hn
theorem tc_endOf {post : Int32 → Prop} {j k : Nat} (hm : tc_mt o nu j k) (hk : k < 2400) (hp : post (nI k)) : wpX_endOf post (f1, f2, f3, f4, f5, f6, f7, f8, a1, a2, a3, a4, a5, a6, o, nu, a9, a10, a11, a12, a13) (nI j) := by
  have := tc_endOf_i (f1 := f1) (f2 := f2) (f3 := f3) (f4 := f4) (f5 := f5) (f6 := f6) (f7 := f7) (f8 := f8) (a1 := a1) (a2 := a2) (a3 := a3) (a4 := a4) (a5 := a5) (a6 := a6) (a9 := a9) (a10 := a10) (a11 := a11) (a12 := a12) (a13 := a13) hm hk hp _ j (Nat.le_refl _) (Nat.le_of_lt hm.1) rfl
  rw [tc_hz2 hm.2.1, show (tc_hz o j + 1 - tc_hz o j).toNat = 1 by omega] at this
  exact this
theorem tc_startOf_i {post : Int32 → Prop} {j k : Nat} (hm : tc_mt o nu j k) (hk : k < 2400) (hp : post (nI j)) : ∀ d i, j ≤ i → i ≤ k → i - j = d → ∃ n, wX_startOf_4 post f1 f2 f3 f4 f5 f6 f7 f8 a1 a2 a3 a4 a5 a6 o nu a9 a10 a11 a12 a13 n (nI (tc_hz o i - tc_hz o j).toNat) (nI i) := by
  obtain ⟨m1, m2, m3, m4, m5, m6, m7⟩ := hm
  intro d
  induction d with
  | zero =>
    intro i hi hik hd
    have : i = j := by omega
    subst this
    refine ⟨1, ?_⟩
    rw [Int.sub_self]
    exact br_t (by decide) hp
  | succ d ih =>
    intro i hi hik hd
    obtain ⟨i', rfl⟩ : ∃ i', i = i' + 1 := ⟨i - 1, by omega⟩
    obtain ⟨n, hn⟩ := ih i' (by omega) (by omega) (by omega)
    have hpos := m7 (i' + 1) (by omega) (by omega)
    have b1 := tc_hz_b o (i' + 1)
    have b2 := tc_hz_b o j
    have hin : vp_in (nI i') 2400 := vp_in_nI (by omega) (by decide)
    have hcl : o (nI i').toNatClampNeg = o i' := by rw [nI_clamp (by omega)]
    refine ⟨n + 1, br_f (nI_nle (by omega) (by omega)) (nm_r (pk_m1 i') (And.intro hin ?_))⟩
    rw [hcl]
    by_cases h3 : o i' = 3
    · refine br_t h3 (nm_r (nI_1 _) ?_)
      refine And.intro hin ?_
      rw [hcl]
      refine br_f (by rw [h3]; decide) ?_
      have e : (tc_hz o (i' + 1) - tc_hz o j).toNat + 1 = (tc_hz o i' - tc_hz o j).toNat := by
        have := tc_hz3 h3
        omega
      rw [e]; exact hn
    · refine br_f h3 ?_
      refine And.intro hin ?_
      rw [hcl]
      by_cases h2 : o i' = 2
      · have hge : tc_hz o j ≤ tc_hz o i' := by
          by_cases hj : i' = j
          · rw [hj]; exact Int.le_refl _
          · exact Int.le_of_lt (m7 i' (by omega) (by omega))
        have e : (tc_hz o (i' + 1) - tc_hz o j).toNat = (tc_hz o i' - tc_hz o j).toNat + 1 := by
          have := tc_hz2 h2
          omega
        rw [e]
        exact br_t h2 (nm_r (pk_m1 _) hn)
      · refine br_f h2 ?_
        rw [tc_hz0 h2 h3]; exact hn
theorem tc_startOf {post : Int32 → Prop} {j k : Nat} (hm : tc_mt o nu j k) (hk : k < 2400) (hp : post (nI j)) : wpX_startOf post (f1, f2, f3, f4, f5, f6, f7, f8, a1, a2, a3, a4, a5, a6, o, nu, a9, a10, a11, a12, a13) (nI k) := by
  have := tc_startOf_i (f1 := f1) (f2 := f2) (f3 := f3) (f4 := f4) (f5 := f5) (f6 := f6) (f7 := f7) (f8 := f8) (a1 := a1) (a2 := a2) (a3 := a3) (a4 := a4) (a5 := a5) (a6 := a6) (a9 := a9) (a10 := a10) (a11 := a11) (a12 := a12) (a13 := a13) hm hk hp _ k (Nat.le_of_lt hm.1) (Nat.le_refl _) rfl
  have e := tc_hz3 hm.2.2.1
  rw [hm.2.2.2.2.2.1] at e
  rw [show (tc_hz o k - tc_hz o j).toNat = 1 by omega] at this
  exact this
end

def tc_tp (t : Nat → Fin 16) : Nat → Int32 := fun j => nI (t j).val
theorem tc_tp_0 {t : Nat → Fin 16} {p : Nat} (hp : p < 96) (h : t p = 0) : tc_tp t (nI p).toNatClampNeg = 0 := by
  rw [nI_clamp (by omega)]
  show nI (t p).val = 0
  rw [h]; decide
theorem tc_nI_f : ∀ x : Fin 16, ¬ x = 0 → ¬ nI x.val = 0 := by decide +kernel
theorem tc_tp_n {t : Nat → Fin 16} {p : Nat} (hp : p < 96) (h : ¬ t p = 0) : ¬ tc_tp t (nI p).toNatClampNeg = 0 := by
  rw [nI_clamp (by omega)]
  exact tc_nI_f _ h
theorem tc_tp_u (t : Nat → Fin 16) (p : Nat) (v : Fin 16) : upd (tc_tp t) p (nI v.val) = tc_tp (tc_fu t p v) := by
  funext j
  show (if j = p then nI v.val else nI (t j).val) = nI (if j = p then v else t j).val
  by_cases h : j = p
  · rw [if_pos h, if_pos h]
  · rw [if_neg h, if_neg h]
theorem tc_addv : ∀ a c : Fin 16, (((nI a.val + nI c.val) &&& 15).toInt8.toInt32).toInt8.toInt32 = nI (a + c).val := by decide +kernel
theorem tc_b8 : ∀ a : Fin 16, (nI a.val).toInt8.toInt32 = nI a.val := by decide +kernel

section
variable {post : SX → Prop} {f1 f3 f4 f5 f6 f7 : Int32} {a1 a2 a3 a4 a5 a6 o nu a9 a10 a11 : Nat → Int32} {ce : Nat}
def tc_K (post : SX → Prop) (f1 f3 f4 f5 f6 f7 : Int32) (a1 a2 a3 a4 a5 a6 o nu a9 a10 a11 : Nat → Int32) (ce : Nat) (i : Nat) (s : tc_S) : Prop :=
  ∃ n, wX_work_4 post n (nI s.1) (nI i) f1 (nI ce) f3 f4 f5 f6 f7 (nI s.2.2.1) a1 a2 a3 a4 a5 a6 o nu a9 a10 a11 (tc_tp s.2.1) s.2.2.2

theorem tc_K_mv (hce : ce ≤ 2400) {i p p' : Nat} {t : Nat → Fin 16} {q : tc_Q} (hi : i < ce) (ho : o i = 0) (hm : nI p + nu i = nI p') (hK : tc_K post f1 f3 f4 f5 f6 f7 a1 a2 a3 a4 a5 a6 o nu a9 a10 a11 ce (i + 1) (p', t, q)) : tc_K post f1 f3 f4 f5 f6 f7 a1 a2 a3 a4 a5 a6 o nu a9 a10 a11 ce i (p, t, q) := by
  obtain ⟨n, h⟩ := hK
  have e0 : o (nI i).toNatClampNeg = 0 := by rw [nI_clamp (by omega)]; exact ho
  have e1 : nu (nI i).toNatClampNeg = nu i := by rw [nI_clamp (by omega)]
  have hin : vp_in (nI i) 2400 := vp_in_nI (by omega) (by decide)
  exact ⟨n + 1, br_f (nI_ge hi (by omega)) (And.intro hin (nm_r e0 (And.intro hin (nm_r e1 (br_t rfl (nm_r hm (nm_r (nI_1 i) h)))))))⟩
theorem tc_K_ad (hce : ce ≤ 2400) {i p : Nat} {t : Nat → Fin 16} {q : tc_Q} {c : Fin 16} (hi : i < ce) (ho : o i = 1) (hc : nu i = nI c.val) (hp : p < 96) (hK : tc_K post f1 f3 f4 f5 f6 f7 a1 a2 a3 a4 a5 a6 o nu a9 a10 a11 ce (i + 1) (p, tc_fu t p (t p + c), q)) : tc_K post f1 f3 f4 f5 f6 f7 a1 a2 a3 a4 a5 a6 o nu a9 a10 a11 ce i (p, t, q) := by
  obtain ⟨n, h⟩ := hK
  have e0 : o (nI i).toNatClampNeg = 1 := by rw [nI_clamp (by omega)]; exact ho
  have e1 : nu (nI i).toNatClampNeg = nI c.val := by rw [nI_clamp (by omega)]; exact hc
  have hin : vp_in (nI i) 2400 := vp_in_nI (by omega) (by decide)
  have hp' : vp_in (nI p) 96 := vp_in_nI hp (by decide)
  have e2 : upd (tc_tp t) (nI p).toNatClampNeg (vp_nar .byte (((tc_tp t (nI p).toNatClampNeg + nI c.val) &&& 15).toInt8.toInt32)) = tc_tp (tc_fu t p (t p + c)) := by
    rw [nI_clamp (by omega), vp_nar_byte, ← tc_tp_u]
    exact congrArg (upd (tc_tp t) p) (tc_addv (t p) c)
  exact ⟨n + 1, br_f (nI_ge hi (by omega)) (And.intro hin (nm_r e0 (And.intro hin (nm_r e1 (br_f (by decide) (br_t rfl (And.intro hp' (And.intro hp' (nm_r e2 (nm_r (nI_1 i) h))))))))))⟩
theorem tc_K_pr (hce : ce ≤ 2400) {i p : Nat} {t : Nat → Fin 16} {q : tc_Q} (hi : i < ce) (ho : o i = 4) (hp : p < 96) (hq : q.1 < 100000) (hK : tc_K post f1 f3 f4 f5 f6 f7 a1 a2 a3 a4 a5 a6 o nu a9 a10 a11 ce (i + 1) (p, t, tc_pr q (t p))) : tc_K post f1 f3 f4 f5 f6 f7 a1 a2 a3 a4 a5 a6 o nu a9 a10 a11 ce i (p, t, q) := by
  have e0 : o (nI i).toNatClampNeg = 4 := by rw [nI_clamp (by omega)]; exact ho
  have e1 : nu (nI i).toNatClampNeg = nu i := by rw [nI_clamp (by omega)]
  have hin : vp_in (nI i) 2400 := vp_in_nI (by omega) (by decide)
  have hp' : vp_in (nI p) 96 := vp_in_nI hp (by decide)
  unfold tc_pr at hK
  by_cases h40 : q.1 < 40
  · rw [if_pos h40] at hK
    obtain ⟨n, h⟩ := hK
    have e2 : upd q.2 (nI q.1).toNatClampNeg (vp_nar .byte (tc_tp t (nI p).toNatClampNeg).toInt8.toInt32) = upd q.2 q.1 (nI (t p).val) := by
      rw [nI_clamp (by omega), nI_clamp (by omega), vp_nar_byte]
      show upd q.2 q.1 ((nI (t p).val).toInt8.toInt32).toInt8.toInt32 = _
      rw [tc_b8, tc_b8]
    refine ⟨n + 1, br_f (nI_ge hi (by omega)) (And.intro hin (nm_r e0 (And.intro hin (nm_r e1 (br_f (by decide) (br_f (by decide) (br_t rfl (And.intro hp' ?_))))))))⟩
    exact br_f (nI_ge (a := q.1) (b := 40) h40 (by decide)) (And.intro (vp_in_nI h40 (by decide)) (nm_r e2 (nm_r (nI_1 q.1) (nm_r (nI_1 i) h))))
  · rw [if_neg h40] at hK
    obtain ⟨n, h⟩ := hK
    refine ⟨n + 1, br_f (nI_ge hi (by omega)) (And.intro hin (nm_r e0 (And.intro hin (nm_r e1 (br_f (by decide) (br_f (by decide) (br_t rfl (And.intro hp' ?_))))))))⟩
    exact br_t (nI_le (a := 40) (b := q.1) (by omega) (by omega)) (nm_r (nI_1 q.1) (nm_r (nI_1 i) h))
theorem tc_K_o0 (hce : ce ≤ 2400) {j k p : Nat} {t : Nat → Fin 16} {q : tc_Q} (hm : tc_mt o nu j k) (hk : k < ce) (hp : p < 96) (h0 : t p = 0) (hK : tc_K post f1 f3 f4 f5 f6 f7 a1 a2 a3 a4 a5 a6 o nu a9 a10 a11 ce (k + 1) (p, t, q)) : tc_K post f1 f3 f4 f5 f6 f7 a1 a2 a3 a4 a5 a6 o nu a9 a10 a11 ce j (p, t, q) := by
  have hjk := hm.1
  have e0 : o (nI j).toNatClampNeg = 2 := by rw [nI_clamp (by omega)]; exact hm.2.1
  have e1 : nu (nI j).toNatClampNeg = nI k := by rw [nI_clamp (by omega)]; exact hm.2.2.2.1
  have hin : vp_in (nI j) 2400 := vp_in_nI (by omega) (by decide)
  have hp' : vp_in (nI p) 96 := vp_in_nI hp (by decide)
  obtain ⟨n, h⟩ := hK
  refine ⟨n + 1, br_f (nI_ge (by omega) (by omega)) (And.intro hin (nm_r e0 (And.intro hin (nm_r e1 (br_f (by decide) (br_f (by decide) (br_f (by decide) (br_f (by decide) (And.intro hp' (br_t (tc_tp_0 hp h0) (br_c (fun _ => nm_r (nI_1 k) h) (fun _ => ?_))))))))))))⟩
  exact tc_endOf hm (by omega) (nm_r (nI_1 k) h)
theorem tc_K_o1 (hce : ce ≤ 2400) {j k p : Nat} {t : Nat → Fin 16} {q : tc_Q} (hm : tc_mt o nu j k) (hk : k < ce) (hp : p < 96) (h0 : ¬ t p = 0) (hne : f7 = 1 → k ≠ j + 2) (hK : tc_K post f1 f3 f4 f5 f6 f7 a1 a2 a3 a4 a5 a6 o nu a9 a10 a11 ce (j + 1) (p, t, q)) : tc_K post f1 f3 f4 f5 f6 f7 a1 a2 a3 a4 a5 a6 o nu a9 a10 a11 ce j (p, t, q) := by
  have hjk := hm.1
  have e0 : o (nI j).toNatClampNeg = 2 := by rw [nI_clamp (by omega)]; exact hm.2.1
  have e1 : nu (nI j).toNatClampNeg = nI k := by rw [nI_clamp (by omega)]; exact hm.2.2.2.1
  have hin : vp_in (nI j) 2400 := vp_in_nI (by omega) (by decide)
  have hp' : vp_in (nI p) 96 := vp_in_nI hp (by decide)
  have e2 : f7 = 1 → ¬ nI k = nI j + 2 := fun z w => hne z ((nI_eq (by omega) (by omega)).mp (w.trans (nI_add j 2)))
  obtain ⟨n, h⟩ := hK
  exact ⟨n + 1, br_f (nI_ge (by omega) (by omega)) (And.intro hin (nm_r e0 (And.intro hin (nm_r e1 (br_f (by decide) (br_f (by decide) (br_f (by decide) (br_f (by decide) (And.intro hp' (br_f (tc_tp_n hp h0) (br_c (fun z => br_f (e2 z) (nm_r (nI_1 j) h)) (fun _ => nm_r (nI_1 j) h))))))))))))⟩
theorem tc_K_c0 (hce : ce ≤ 2400) {j k p : Nat} {t : Nat → Fin 16} {q : tc_Q} (hm : tc_mt o nu j k) (hk : k < ce) (hp : p < 96) (h0 : t p = 0) (hK : tc_K post f1 f3 f4 f5 f6 f7 a1 a2 a3 a4 a5 a6 o nu a9 a10 a11 ce (k + 1) (p, t, q)) : tc_K post f1 f3 f4 f5 f6 f7 a1 a2 a3 a4 a5 a6 o nu a9 a10 a11 ce k (p, t, q) := by
  have e0 : o (nI k).toNatClampNeg = 3 := by rw [nI_clamp (by omega)]; exact hm.2.2.1
  have e1 : nu (nI k).toNatClampNeg = nI j := by rw [nI_clamp (by omega)]; exact hm.2.2.2.2.1
  have hin : vp_in (nI k) 2400 := vp_in_nI (by omega) (by decide)
  have hp' : vp_in (nI p) 96 := vp_in_nI hp (by decide)
  obtain ⟨n, h⟩ := hK
  exact ⟨n + 1, br_f (nI_ge hk (by omega)) (And.intro hin (nm_r e0 (And.intro hin (nm_r e1 (br_f (by decide) (br_f (by decide) (br_f (by decide) (br_t rfl (And.intro hp' (br_t (tc_tp_0 hp h0) (nm_r (nI_1 k) h)))))))))))⟩
theorem tc_K_c1 (hce : ce ≤ 2400) {j k p : Nat} {t : Nat → Fin 16} {q : tc_Q} (hm : tc_mt o nu j k) (hk : k < ce) (hp : p < 96) (h0 : ¬ t p = 0) (hK : tc_K post f1 f3 f4 f5 f6 f7 a1 a2 a3 a4 a5 a6 o nu a9 a10 a11 ce (j + 1) (p, t, q)) : tc_K post f1 f3 f4 f5 f6 f7 a1 a2 a3 a4 a5 a6 o nu a9 a10 a11 ce k (p, t, q) := by
  have e0 : o (nI k).toNatClampNeg = 3 := by rw [nI_clamp (by omega)]; exact hm.2.2.1
  have e1 : nu (nI k).toNatClampNeg = nI j := by rw [nI_clamp (by omega)]; exact hm.2.2.2.2.1
  have hin : vp_in (nI k) 2400 := vp_in_nI (by omega) (by decide)
  have hp' : vp_in (nI p) 96 := vp_in_nI hp (by decide)
  obtain ⟨n, h⟩ := hK
  refine ⟨n + 1, br_f (nI_ge hk (by omega)) (And.intro hin (nm_r e0 (And.intro hin (nm_r e1 (br_f (by decide) (br_f (by decide) (br_f (by decide) (br_t rfl (And.intro hp' (br_f (tc_tp_n hp h0) (br_c (fun _ => nm_r (nI_1 j) h) (fun _ => ?_))))))))))))⟩
  exact tc_startOf hm (by omega) (nm_r (nI_1 j) h)
theorem tc_K_cl1 (hce : ce ≤ 2400) {j p : Nat} {t : Nat → Fin 16} {q : tc_Q} (h7 : f7 = 1) (hm : tc_mt o nu j (j + 2)) (hk : j + 2 < ce) (hp : p < 96) (h1 : o (j + 1) = 1) (h15 : nu (j + 1) = 15) (h0 : ¬ t p = 0) (hK : tc_K post f1 f3 f4 f5 f6 f7 a1 a2 a3 a4 a5 a6 o nu a9 a10 a11 ce (j + 3) (p, tc_fu t p 0, q)) : tc_K post f1 f3 f4 f5 f6 f7 a1 a2 a3 a4 a5 a6 o nu a9 a10 a11 ce j (p, t, q) := by
  have e0 : o (nI j).toNatClampNeg = 2 := by rw [nI_clamp (by omega)]; exact hm.2.1
  have e1 : nu (nI j).toNatClampNeg = nI (j + 2) := by rw [nI_clamp (by omega)]; exact hm.2.2.2.1
  have hin : vp_in (nI j) 2400 := vp_in_nI (by omega) (by decide)
  have hin1 : vp_in (nI j + 1) 2400 := by rw [nI_1]; exact vp_in_nI (by omega) (by decide)
  have g1 : o (nI j + 1).toNatClampNeg = 1 := by rw [nI_1, nI_clamp (by omega)]; exact h1
  have g2 : nu (nI j + 1).toNatClampNeg = 15 := by rw [nI_1, nI_clamp (by omega)]; exact h15
  have hp' : vp_in (nI p) 96 := vp_in_nI hp (by decide)
  have e2 : upd (tc_tp t) (nI p).toNatClampNeg (vp_nar .byte 0) = tc_tp (tc_fu t p 0) := by
    rw [nI_clamp (by omega), vp_nar_byte, ← tc_tp_u]
    exact congrArg (upd (tc_tp t) p) (by decide)
  obtain ⟨n, h⟩ := hK
  exact ⟨n + 1, br_f (nI_ge (by omega) (by omega)) (And.intro hin (nm_r e0 (And.intro hin (nm_r e1 (br_f (by decide) (br_f (by decide) (br_f (by decide) (br_f (by decide) (And.intro hp' (br_f (tc_tp_n hp h0) (br_t h7 (br_t (nI_add j 2).symm (And.intro hin1 (br_t g1 (And.intro hin1 (br_t g2 (And.intro hp' (nm_r e2 (nm_r (nI_1 (j + 2)) h)))))))))))))))))))⟩
theorem tc_K_cl0 (hce : ce ≤ 2400) {j p : Nat} {q : tc_Q} (hm : tc_mt o nu j (j + 2)) (hk : j + 2 < ce) (hp : p < 96) (h1 : o (j + 1) = 1) (h15 : nu (j + 1) = 15) : ∀ (n : Nat) (t : Nat → Fin 16), (t p).val = n → tc_K post f1 f3 f4 f5 f6 f7 a1 a2 a3 a4 a5 a6 o nu a9 a10 a11 ce (j + 3) (p, tc_fu t p 0, q) → tc_K post f1 f3 f4 f5 f6 f7 a1 a2 a3 a4 a5 a6 o nu a9 a10 a11 ce (j + 2) (p, t, q) := by
  intro n
  induction n with
  | zero =>
    intro t ht hK
    have h0 := tc_z ht
    rw [← h0, tc_fu_id] at hK
    exact tc_K_c0 hce hm hk hp h0 hK
  | succ n ih =>
    intro t ht hK
    refine tc_K_c1 hce hm hk hp (tc_nz ht) (tc_K_ad (c := 15) hce (by omega) h1 (by rw [h15]; decide) hp (ih _ ?_ ?_))
    · rw [tc_fu_s]; exact tc_dec ht
    · rw [tc_fu_fu]; exact hK
theorem tc_K_cl (hce : ce ≤ 2400) {j p : Nat} {t : Nat → Fin 16} {q : tc_Q} (hm : tc_mt o nu j (j + 2)) (hk : j + 2 < ce) (hp : p < 96) (h1 : o (j + 1) = 1) (h15 : nu (j + 1) = 15) (hK : tc_K post f1 f3 f4 f5 f6 f7 a1 a2 a3 a4 a5 a6 o nu a9 a10 a11 ce (j + 3) (p, tc_fu t p 0, q)) : tc_K post f1 f3 f4 f5 f6 f7 a1 a2 a3 a4 a5 a6 o nu a9 a10 a11 ce j (p, t, q) := by
  by_cases h0 : t p = 0
  · rw [← h0, tc_fu_id] at hK
    exact tc_K_o0 hce hm hk hp h0 hK
  by_cases h7 : f7 = 1
  · exact tc_K_cl1 hce h7 hm hk hp h1 h15 h0 hK
  · refine tc_K_o1 hce hm hk hp h0 (fun z => absurd z h7) (tc_K_ad (c := 15) hce (by omega) h1 (by rw [h15]; decide) hp (tc_K_cl0 hce hm hk hp h1 h15 _ _ rfl ?_))
    rw [tc_fu_fu]; exact hK
theorem tc_K_VM (hce : ce ≤ 2400) : tc_VM o nu ce (tc_K post f1 f3 f4 f5 f6 f7 a1 a2 a3 a4 a5 a6 o nu a9 a10 a11 ce) :=
  ⟨fun i p p' t q h1 h2 h3 hK => tc_K_mv hce h1 h2 h3 hK, fun i p t q c h1 h2 h3 h4 hK => tc_K_ad hce h1 h2 h3 h4 hK, fun i p t q h1 h2 h3 h4 hK => tc_K_pr hce h1 h2 h3 h4 hK,
   fun j k p t q h1 h2 h3 h4 hK => tc_K_o0 hce h1 h2 h3 h4 hK, fun j k p t q h1 h2 h3 h4 h5 hK => tc_K_o1 hce h1 h2 h3 h4 (fun _ => h5) hK, fun j p t q h1 h2 h3 h4 h5 hK => tc_K_cl hce h1 h2 h3 h4 h5 hK,
   fun j k p t q h1 h2 h3 h4 hK => tc_K_c0 hce h1 h2 h3 h4 hK, fun j k p t q h1 h2 h3 h4 hK => tc_K_c1 hce h1 h2 h3 h4 hK⟩
/-- the machine over code that L is: it does what L does -/
theorem tc_work {L : List tc_T} {t t' : Nat → Fin 16} {q q' : tc_Q} {p' : Nat} (hl : L.length ≤ 2400) (hI : tc_EI L 0 o nu a9) (hx : tc_Ex L (0, t, q) (p', t', q'))
    (hp : post (f1, nI L.length, f3, f4, f5, f6, f7, nI q'.1, a1, a2, a3, a4, a5, a6, o, nu, a9, a10, a11, tc_tp t', q'.2)) :
    wpX_work post (f1, nI L.length, f3, f4, f5, f6, f7, nI q.1, a1, a2, a3, a4, a5, a6, o, nu, a9, a10, a11, tc_tp t, q.2) := by
  obtain ⟨h1, h2, st, h3, h4⟩ := hI
  refine hx o nu L.length (tc_K post f1 f3 f4 f5 f6 f7 a1 a2 a3 a4 a5 a6 o nu a9 a10 a11 L.length) (tc_K_VM hl) ?_ 0 (by omega) h1 ?_
  · intro j hj hj2
    rcases h4 j hj hj2 with ⟨i, hi, _⟩ | h
    · omega
    · exact h
  · rw [Nat.zero_add]
    exact ⟨1, br_t (nI_le (Nat.le_refl _) (by omega)) hp⟩
end
end
section
/-! compiling a plain statement -/
theorem tc_Em_get {p d x y : Nat} (hp : p < 96) (hx : x < 96) (hy : y < 96) (hd : d < 14) : tc_Em (fun post u => wpX_compileElement post u 7 (nI x) (nI y)) p d (tc_get p x y) 26 d :=
  tc_Em.cv (tc_Em.bt (c := (7 : Int32) = 7) rfl ((tc_Em_copy (b := 25) hp hy (by decide) (by omega)).seq (tc_Em.bf (c := (7 : Int32) = 8) (by decide) ((tc_Em_go (p := 19) (q := 25) (by decide) (by decide)).seq ((tc_Em_out (by omega)).seq
    (tc_Em.bf (c := (7 : Int32) = 8) (by decide) ((tc_Em_pick (by omega)).seq ((tc_Em_back (by omega)).seq ((tc_Em_at (q := 24)).seq (tc_Em.bt (c := (7 : Int32) = 7) (B := fun post u => post u) rfl (tc_Em_repl (b := 26) (by decide) hx (by decide) (by omega)))))))))))) (fun _ _ h => h)
    (by simp [tc_get])
theorem tc_Em_pute {p d x y : Nat} (hp : p < 96) (hx : x < 96) (hy : y < 96) (hd : d < 14) : tc_Em (fun post u => wpX_compileElement post u 8 (nI x) (nI y)) p d (tc_put p x y) 24 d :=
  tc_Em.cv (tc_Em.bf (c := (8 : Int32) = 7) (by decide) ((tc_Em_copy (b := 25) hp hx (by decide) (by omega)).seq (tc_Em.bt (c := (8 : Int32) = 8) rfl ((tc_Em_copy (p := 19) (b := 26) (by decide) hy (by decide) (by omega)).seq ((tc_Em_go (p := 19) (q := 25) (by decide) (by decide)).seq ((tc_Em_out (by omega)).seq
    (tc_Em.bt (c := (8 : Int32) = 8) rfl ((tc_Em_pm (k := 2) (by decide)).seq ((tc_Em_oh (by omega)).seq ((tc_Em_pa (k := 15) (by decide)).seq ((tc_Em_ch (by omega)).seq ((tc_Em_pm (k := -1) (by decide)).seq ((tc_Em_sh (k := 1) (by decide) (by decide) (by omega)).seq ((tc_Em_pm (k := -1) (by decide)).seq
    ((tc_Em_back (by omega)).seq ((tc_Em_at (q := 24)).seq (tc_Em.bf (c := (8 : Int32) = 7) (A := fun post u => wpX_replace post u (nI x) 26) (by decide) (fun r L u hS hl post hp => hp u (by rw [List.append_nil]; exact hS))))))))))))))))))) (fun _ _ h => h)
    (by simp [tc_put, tc_lp])
theorem tc_Em_nil {p d : Nat} : tc_Em (fun post u => post u) p d [] p d := fun r L u hS hl post hp => hp u (by rw [List.append_nil]; exact hS)
theorem tc_Em_p0a {p d x y z : Nat} {Y Z : Int32} (hp : p < 96) (hx : x < 6) (hd : d < 10) : tc_Em (fun post u => wpX_compilePlain post u (nI 0) (nI x) (nI 0) Z) p d (tc_set p x 0) x d :=
  tc_Em.cv (tc_Em.bt (c := nI 0 = 0) (by decide) ((tc_Em_clear hp (by omega) (by omega)).seq (tc_Em.bt (c := nI 0 = 0) (by decide) tc_Em_nil))) (fun _ _ h => h) (by simp [tc_set])
theorem tc_Em_p0b {p d x y z : Nat} {Y Z : Int32} (hp : p < 96) (hx : x < 6) (hy : y < 16) (h0 : y ≠ 0) (hd : d < 10) : tc_Em (fun post u => wpX_compilePlain post u (nI 0) (nI x) (nI y) Z) p d (tc_set p x y) x d :=
  tc_Em.cv (tc_Em.bt (c := nI 0 = 0) (by decide) ((tc_Em_clear hp (by omega) (by omega)).seq (tc_Em.bf (c := nI y = 0) (nI_ne0 (by omega) (by omega)) (tc_Em_grow (p := x) (q := x) (k := nI y) (by omega) (by omega) (tc_i16 (by omega)))))) (fun _ _ h => h) (by simp [tc_set, h0, tc_mv_s])
theorem tc_Em_p1 {p d x y z : Nat} {Y Z : Int32} (hp : p < 96) (hx : x < 6) (hy : y < 6) (hd : d < 10) : tc_Em (fun post u => wpX_compilePlain post u (nI 1) (nI x) (nI y) Z) p d (tc_copy p y 10 ++ tc_repl 19 x 10) 10 d :=
  tc_Em.cv (tc_Em.bf (c := nI 1 = 0) (by decide) (tc_Em.bt (c := nI 1 = 1) (by decide) ((tc_Em_copy (b := 10) hp (by omega) (by decide) (by omega)).seq (tc_Em_repl (p := 19) (b := 10) (by decide) (by omega) (by decide) (by omega))))) (fun _ _ h => h) (rfl)
theorem tc_Em_p2 {p d x y z : Nat} {Y Z : Int32} (hp : p < 96) (hx : x < 6) (hy : y < 6) (hd : d < 10) : tc_Em (fun post u => wpX_compilePlain post u (nI 2) (nI x) (nI y) Z) p d (tc_copy p y 10 ++ tc_carry 19 10 x) 10 d :=
  tc_Em.cv (tc_Em.bf (c := nI 2 = 0) (by decide) (tc_Em.bf (c := nI 2 = 1) (by decide) (tc_Em.bt (c := nI 2 = 2) (by decide) ((tc_Em_copy (b := 10) hp (by omega) (by decide) (by omega)).seq (tc_Em_carry (p := 19) (a := 10) (by decide) (by decide) (by omega) (by omega)))))) (fun _ _ h => h) (rfl)
theorem tc_Em_p3 {p d x y z : Nat} {Y Z : Int32} (hp : p < 96) (hx : x < 6) (hy : y < 6) (hd : d < 10) : tc_Em (fun post u => wpX_compilePlain post u (nI 3) (nI x) (nI y) Z) p d (tc_sub p x y) 10 d :=
  tc_Em.cv (tc_Em.bf (c := nI 3 = 0) (by decide) (tc_Em.bf (c := nI 3 = 1) (by decide) (tc_Em.bf (c := nI 3 = 2) (by decide) (tc_Em.bt (c := nI 3 = 3) (by decide) ((tc_Em_copy (b := 10) hp (by omega) (by decide) (by omega)).seq ((tc_Em_open (p := 19) (q := 10) (by decide) (by decide) (by omega)).seq ((tc_Em_grow (p := 10) (q := 10) (k := 15) (by decide) (by decide) (by decide)).seq ((tc_Em_grow (p := 10) (q := x) (k := 15) (by decide) (by omega) (by decide)).seq (tc_Em_close (p := x) (q := 10) (by omega) (by decide) (by omega)))))))))) (fun _ _ h => h) (by simp [tc_sub, tc_lp, tc_mv_s])
theorem tc_Em_p4 {p d x y z : Nat} {Y Z : Int32} (hp : p < 96) (hx : x < 6) (hy : y < 6) (hz : z < 6) (hd : d < 10) : tc_Em (fun post u => wpX_compilePlain post u (nI 4) (nI x) (nI y) (nI z)) p d (tc_prod p x y z) 12 d :=
  tc_Em.cv (tc_Em.bf (c := nI 4 = 0) (by decide) (tc_Em.bf (c := nI 4 = 1) (by decide) (tc_Em.bf (c := nI 4 = 2) (by decide) (tc_Em.bf (c := nI 4 = 3) (by decide) (tc_Em.bt (c := nI 4 = 4) (by decide) (tc_Em_prod hp (by omega) (by omega) (by omega) (by omega))))))) (fun _ _ h => h) (rfl)
theorem tc_Em_p5 {p d x y z : Nat} {Y Z : Int32} (hp : p < 96) (hx : x < 6) (hy : y < 6) (hz : z < 6) (hd : d < 10) : tc_Em (fun post u => wpX_compilePlain post u (nI 5) (nI x) (nI y) (nI z)) p d (tc_less p x y z) 12 d :=
  tc_Em.cv (tc_Em.bf (c := nI 5 = 0) (by decide) (tc_Em.bf (c := nI 5 = 1) (by decide) (tc_Em.bf (c := nI 5 = 2) (by decide) (tc_Em.bf (c := nI 5 = 3) (by decide) (tc_Em.bf (c := nI 5 = 4) (by decide) (tc_Em.bt (c := nI 5 = 5) (by decide) (tc_Em_less hp (by omega) (by omega) (by omega) (by omega)))))))) (fun _ _ h => h) (rfl)
theorem tc_Em_p6 {p d x y z : Nat} {Y Z : Int32} (hp : p < 96) (hx : x < 6) (hy : y < 6) (hz : z < 6) (hd : d < 10) : tc_Em (fun post u => wpX_compilePlain post u (nI 6) (nI x) (nI y) (nI z)) p d (tc_same p x y z) 12 d :=
  tc_Em.cv (tc_Em.bf (c := nI 6 = 0) (by decide) (tc_Em.bf (c := nI 6 = 1) (by decide) (tc_Em.bf (c := nI 6 = 2) (by decide) (tc_Em.bf (c := nI 6 = 3) (by decide) (tc_Em.bf (c := nI 6 = 4) (by decide) (tc_Em.bf (c := nI 6 = 5) (by decide) (tc_Em.bt (c := nI 6 = 6) (by decide) ((tc_Em_diff hp (by omega) (by omega) (by omega)).seq ((tc_Em_grow (p := 11) (q := 12) (k := 1) (by decide) (by decide) (by decide)).seq ((tc_Em_open (p := 12) (q := 10) (by decide) (by decide) (by omega)).seq ((tc_Em_clear (p := 10) (q := 10) (by decide) (by decide) (by omega)).seq ((tc_Em_grow (p := 10) (q := 12) (k := 15) (by decide) (by decide) (by decide)).seq ((tc_Em_close (p := 12) (q := 10) (by decide) (by decide) (by omega)).seq (tc_Em_repl (p := 10) (b := 12) (by decide) (by omega) (by decide) (by omega))))))))))))))) (fun _ _ h => h) (by simp [tc_same, tc_lp])
theorem tc_Em_p7 {p d x y z : Nat} {Y Z : Int32} (hp : p < 96) (hx : x < 6) (hy : y < 6) (hd : d < 10) : tc_Em (fun post u => wpX_compilePlain post u (nI 7) (nI x) (nI y) Z) p d (tc_get p x y) 26 d :=
  tc_Em.cv (tc_Em.bf (c := nI 7 = 0) (by decide) (tc_Em.bf (c := nI 7 = 1) (by decide) (tc_Em.bf (c := nI 7 = 2) (by decide) (tc_Em.bf (c := nI 7 = 3) (by decide) (tc_Em.bf (c := nI 7 = 4) (by decide) (tc_Em.bf (c := nI 7 = 5) (by decide) (tc_Em.bf (c := nI 7 = 6) (by decide) (tc_Em.bt (c := nI 7 = 7) (by decide) (tc_Em_get hp (by omega) (by omega) (by omega)))))))))) (fun _ _ h => h) (rfl)
theorem tc_Em_p8 {p d x y z : Nat} {Y Z : Int32} (hp : p < 96) (hx : x < 6) (hy : y < 6) (hd : d < 10) : tc_Em (fun post u => wpX_compilePlain post u (nI 8) (nI x) (nI y) Z) p d (tc_put p x y) 24 d :=
  tc_Em.cv (tc_Em.bf (c := nI 8 = 0) (by decide) (tc_Em.bf (c := nI 8 = 1) (by decide) (tc_Em.bf (c := nI 8 = 2) (by decide) (tc_Em.bf (c := nI 8 = 3) (by decide) (tc_Em.bf (c := nI 8 = 4) (by decide) (tc_Em.bf (c := nI 8 = 5) (by decide) (tc_Em.bf (c := nI 8 = 6) (by decide) (tc_Em.bf (c := nI 8 = 7) (by decide) (tc_Em.bt (c := nI 8 = 8) (by decide) (tc_Em_pute hp (by omega) (by omega) (by omega))))))))))) (fun _ _ h => h) (rfl)
theorem tc_Em_p9 {p d x y z : Nat} {Y Z : Int32} (hp : p < 96) (hx : x < 6) (hd : d < 10) : tc_Em (fun post u => wpX_compilePlain post u (nI 9) (nI x) Y Z) p d (tc_mv p x ++ [(4, 0)]) x d :=
  tc_Em.cv (tc_Em.bf (c := nI 9 = 0) (by decide) (tc_Em.bf (c := nI 9 = 1) (by decide) (tc_Em.bf (c := nI 9 = 2) (by decide) (tc_Em.bf (c := nI 9 = 3) (by decide) (tc_Em.bf (c := nI 9 = 4) (by decide) (tc_Em.bf (c := nI 9 = 5) (by decide) (tc_Em.bf (c := nI 9 = 6) (by decide) (tc_Em.bf (c := nI 9 = 7) (by decide) (tc_Em.bf (c := nI 9 = 8) (by decide) (tc_Em.bt (c := nI 9 = 9) (by decide) ((tc_Em_go hp (by omega)).seq (tc_Em_put (c := 4) (k := 0) (by decide) (by decide) (by decide) (by decide))))))))))))) (fun _ _ h => h) (rfl)
theorem tc_Em_p13 {p d x y z : Nat} {Y Z : Int32} (hp : p < 96) (hx : x < 6) (hy : y < 6) (hz : z < 6) (hd : d < 10) : tc_Em (fun post u => wpX_compilePlain post u (nI 13) (nI x) (nI y) (nI z)) p d (tc_quot p x y z) 12 d :=
  tc_Em.cv (tc_Em.bf (c := nI 13 = 0) (by decide) (tc_Em.bf (c := nI 13 = 1) (by decide) (tc_Em.bf (c := nI 13 = 2) (by decide) (tc_Em.bf (c := nI 13 = 3) (by decide) (tc_Em.bf (c := nI 13 = 4) (by decide) (tc_Em.bf (c := nI 13 = 5) (by decide) (tc_Em.bf (c := nI 13 = 6) (by decide) (tc_Em.bf (c := nI 13 = 7) (by decide) (tc_Em.bf (c := nI 13 = 8) (by decide) (tc_Em.bf (c := nI 13 = 9) (by decide) (tc_Em_quot hp (by omega) (by omega) (by omega) (by omega)))))))))))) (fun _ _ h => h) (rfl)
theorem tc_Em_plain {k x y z p d : Nat} {Y Z : Int32} (hk : k ≤ 13) (h10 : k ≠ 10) (h11 : k ≠ 11) (h12 : k ≠ 12) (hv : tc_vp k x y z) (hY : k ≠ 9 → Y = nI y) (hZ : k = 4 ∨ k = 5 ∨ k = 6 ∨ k = 13 → Z = nI z) (hp : p < 96) (hd : d < 10) : tc_Em (fun post u => wpX_compilePlain post u (nI k) (nI x) Y Z) p d (tc_pl k x y z p).1 (tc_pl k x y z p).2 d := by
  obtain ⟨px, p0, py, pz⟩ := hv
  unfold tc_pl
  by_cases h9 : k = 9
  · subst h9
    exact tc_Em_p9 (y := 0) (z := 0) hp px hd
  have eY := hY h9
  subst eY
  by_cases h0 : k = 0
  · subst h0
    by_cases y0 : y = 0
    · subst y0
      exact tc_Em_p0a (y := 0) (z := 0) (Y := 0) hp px hd
    · exact tc_Em_p0b (z := 0) (Y := 0) hp px (p0 rfl) y0 hd
  have hy := py h0 h9
  by_cases h1 : k = 1
  · subst h1
    exact tc_Em_p1 (z := 0) (Y := 0) hp px hy hd
  by_cases h2 : k = 2
  · subst h2
    exact tc_Em_p2 (z := 0) (Y := 0) hp px hy hd
  by_cases h3 : k = 3
  · subst h3
    exact tc_Em_p3 (z := 0) (Y := 0) hp px hy hd
  by_cases h7 : k = 7
  · subst h7
    exact tc_Em_p7 (z := 0) (Y := 0) hp px hy hd
  by_cases h8 : k = 8
  · subst h8
    exact tc_Em_p8 (z := 0) (Y := 0) hp px hy hd
  have hz := pz (by omega)
  have eZ := hZ (by omega)
  subst eZ
  by_cases h4 : k = 4
  · subst h4
    exact tc_Em_p4 (Y := 0) (Z := 0) hp px hy hz hd
  by_cases h5 : k = 5
  · subst h5
    exact tc_Em_p5 (Y := 0) (Z := 0) hp px hy hz hd
  by_cases h6 : k = 6
  · subst h6
    exact tc_Em_p6 (Y := 0) (Z := 0) hp px hy hz hd
  have h13 : k = 13 := by omega
  subst h13
  exact tc_Em_p13 (Y := 0) (Z := 0) hp px hy hz hd
end
section
/-! the loop over the statements that are being compiled -/
def tc_CK (post : SX → Prop) (m : Nat) (u : SX) : Prop :=
  wX_compile_30 post m u.1 u.2.1 u.2.2.1 u.2.2.2.1 u.2.2.2.2.1 u.2.2.2.2.2.1 u.2.2.2.2.2.2.1 u.2.2.2.2.2.2.2.1 u.2.2.2.2.2.2.2.2.1 u.2.2.2.2.2.2.2.2.2.1 u.2.2.2.2.2.2.2.2.2.2.1 u.2.2.2.2.2.2.2.2.2.2.2.1 u.2.2.2.2.2.2.2.2.2.2.2.2.1 u.2.2.2.2.2.2.2.2.2.2.2.2.2.1 u.2.2.2.2.2.2.2.2.2.2.2.2.2.2.1 u.2.2.2.2.2.2.2.2.2.2.2.2.2.2.2.1 u.2.2.2.2.2.2.2.2.2.2.2.2.2.2.2.2.1 u.2.2.2.2.2.2.2.2.2.2.2.2.2.2.2.2.2.1 u.2.2.2.2.2.2.2.2.2.2.2.2.2.2.2.2.2.2.1 u.2.2.2.2.2.2.2.2.2.2.2.2.2.2.2.2.2.2.2.1 u.2.2.2.2.2.2.2.2.2.2.2.2.2.2.2.2.2.2.2.2
def tc_r (f1 f7 f8 : Int32) (a1 a2 a3 a4 a5 a6 a12 a13 : tc_A) (dep nest : Nat) (nA pA : tc_A) : tc_R := (f1, nI dep, nI nest, f7, f8, a1, a2, a3, a4, a5, a6, nA, pA, a12, a13)
theorem tc_i8 {n : Nat} (h : n < 128) : (nI n).toInt8.toInt32 = nI n := by
  refine lg_i2b_small ?_ ?_
  · rw [nI_toInt (by omega)]; omega
  · rw [nI_toInt (by omega)]; omega
section
variable {post : SX → Prop} {f1 f7 f8 : Int32} {a1 a2 a3 a4 a5 a6 a12 a13 : tc_A}
theorem tc_enter {nA pA : tc_A} {h n p d s : Nat} {L : List tc_T} {u : SX} (hS : tc_St (tc_r f1 f7 f8 a1 a2 a3 a4 a5 a6 a12 a13 h n nA pA) L p d u) (hh : h < 16) (hs : s < 128) (hp : ∀ u', tc_St (tc_r f1 f7 f8 a1 a2 a3 a4 a5 a6 a12 a13 (h + 1) n (upd nA h (nI s)) (upd pA h 0)) L p d u' → post u') : wpX_enter post u (nI s) := by
  obtain ⟨o, nu, lo, rfl, hI⟩ := hS
  have e1 : upd nA (nI h).toNatClampNeg (vp_nar .byte (nI s).toInt8.toInt32) = upd nA h (nI s) := by
    rw [nI_clamp (by omega), vp_nar_byte, tc_i8 hs, tc_i8 hs]
  have e2 : upd pA (nI h).toNatClampNeg (vp_nar .byte 0) = upd pA h 0 := by
    rw [nI_clamp (by omega), vp_nar_byte]
    exact congrArg (upd pA h) (by decide)
  exact And.intro (vp_in_nI hh (by decide)) (nm_r e1 (And.intro (vp_in_nI hh (by decide)) (nm_r e2 (nm_r (nI_1 h) (hp _ ⟨o, nu, lo, rfl, hI⟩)))))
theorem tc_st_t2 {nA pA : tc_A} {h n p d s ph k m : Nat} {L : List tc_T} {u : SX} (hS : tc_St (tc_r f1 f7 f8 a1 a2 a3 a4 a5 a6 a12 a13 (h + 1) n nA pA) L p d u) (hh : h < 16) (hs : s < 40) (hph : ph < 100) (hA : nA h = nI s) (hP : pA h = nI ph) (hk : a1 s = nI k) (h10 : k = 10) (h2 : ph = 2)
    (H : ∀ u', tc_St (tc_r f1 f7 f8 a1 a2 a3 a4 a5 a6 a12 a13 h n nA (upd pA h (nI (ph + 1)))) L p d u' → tc_CK post m u') : tc_CK post (m + 1) u := by
  obtain ⟨o, nu, lo, rfl, hI⟩ := hS
  have e1 : nA (nI h).toNatClampNeg = nI s := by rw [nI_clamp (by omega)]; exact hA
  have e2 : pA (nI h).toNatClampNeg = nI ph := by rw [nI_clamp (by omega)]; exact hP
  have e3 : upd pA (nI h).toNatClampNeg (vp_nar .byte ((pA (nI h).toNatClampNeg + 1).toInt8.toInt32)) = upd pA h (nI (ph + 1)) := by
    rw [e2, nI_clamp (by omega), vp_nar_byte, nI_1, tc_i8 (by omega), tc_i8 (by omega)]
  have e4 : a1 (nI s).toNatClampNeg = nI k := by rw [nI_clamp (by omega)]; exact hk
  have hin : vp_in (nI h) 16 := vp_in_nI hh (by decide)
  have his : vp_in (nI s) 40 := vp_in_nI hs (by decide)
  refine br_f (nI_nle (by omega) (by omega)) (nm_r (nI_pred h) (And.intro hin (nm_r e1 (And.intro hin (nm_r e2 (And.intro hin (And.intro hin (nm_r e3 (And.intro his (nm_r e4 ?_))))))))))
  exact br_t (by rw [h10]; rfl) (br_t (by rw [h2]; rfl) (nm_r (nI_pred h) (H _ ⟨o, nu, lo, rfl, hI⟩)))
theorem tc_st_t0 {nA pA : tc_A} {h n p d s ph k m : Nat} {L : List tc_T} {u : SX} (hS : tc_St (tc_r f1 f7 f8 a1 a2 a3 a4 a5 a6 a12 a13 (h + 1) n nA pA) L p d u) (hh : h < 16) (hs : s < 40) (hph : ph < 100) (hA : nA h = nI s) (hP : pA h = nI ph) (hk : a1 s = nI k) (h10 : k = 10) (h2 : ph = 0) {x : Nat} (hx : a2 s = nI x)
    (H : ∀ u', tc_St (tc_r f1 f7 f8 a1 a2 a3 a4 a5 a6 a12 a13 (h + 1) n nA (upd pA h (nI (ph + 1)))) L p d u' → wpX_enter (fun u => tc_CK post m u) u' (nI x)) : tc_CK post (m + 1) u := by
  obtain ⟨o, nu, lo, rfl, hI⟩ := hS
  have e1 : nA (nI h).toNatClampNeg = nI s := by rw [nI_clamp (by omega)]; exact hA
  have e2 : pA (nI h).toNatClampNeg = nI ph := by rw [nI_clamp (by omega)]; exact hP
  have e3 : upd pA (nI h).toNatClampNeg (vp_nar .byte ((pA (nI h).toNatClampNeg + 1).toInt8.toInt32)) = upd pA h (nI (ph + 1)) := by
    rw [e2, nI_clamp (by omega), vp_nar_byte, nI_1, tc_i8 (by omega), tc_i8 (by omega)]
  have e4 : a1 (nI s).toNatClampNeg = nI k := by rw [nI_clamp (by omega)]; exact hk
  have hin : vp_in (nI h) 16 := vp_in_nI hh (by decide)
  have his : vp_in (nI s) 40 := vp_in_nI hs (by decide)
  refine br_f (nI_nle (by omega) (by omega)) (nm_r (nI_pred h) (And.intro hin (nm_r e1 (And.intro hin (nm_r e2 (And.intro hin (And.intro hin (nm_r e3 (And.intro his (nm_r e4 ?_))))))))))
  have ex : a2 (nI s).toNatClampNeg = nI x := by rw [nI_clamp (by omega)]; exact hx
  refine br_t (by rw [h10]; rfl) (br_f (by rw [h2]; decide) (br_t (by rw [h2]; rfl) (And.intro his ?_)))
  have := H _ ⟨o, nu, lo, rfl, hI⟩
  rw [← ex] at this
  exact this
theorem tc_st_t1 {nA pA : tc_A} {h n p d s ph k m : Nat} {L : List tc_T} {u : SX} (hS : tc_St (tc_r f1 f7 f8 a1 a2 a3 a4 a5 a6 a12 a13 (h + 1) n nA pA) L p d u) (hh : h < 16) (hs : s < 40) (hph : ph < 100) (hA : nA h = nI s) (hP : pA h = nI ph) (hk : a1 s = nI k) (h10 : k = 10) (h2 : ph = 1) {x : Nat} (hx : a3 s = nI x)
    (H : ∀ u', tc_St (tc_r f1 f7 f8 a1 a2 a3 a4 a5 a6 a12 a13 (h + 1) n nA (upd pA h (nI (ph + 1)))) L p d u' → wpX_enter (fun u => tc_CK post m u) u' (nI x)) : tc_CK post (m + 1) u := by
  obtain ⟨o, nu, lo, rfl, hI⟩ := hS
  have e1 : nA (nI h).toNatClampNeg = nI s := by rw [nI_clamp (by omega)]; exact hA
  have e2 : pA (nI h).toNatClampNeg = nI ph := by rw [nI_clamp (by omega)]; exact hP
  have e3 : upd pA (nI h).toNatClampNeg (vp_nar .byte ((pA (nI h).toNatClampNeg + 1).toInt8.toInt32)) = upd pA h (nI (ph + 1)) := by
    rw [e2, nI_clamp (by omega), vp_nar_byte, nI_1, tc_i8 (by omega), tc_i8 (by omega)]
  have e4 : a1 (nI s).toNatClampNeg = nI k := by rw [nI_clamp (by omega)]; exact hk
  have hin : vp_in (nI h) 16 := vp_in_nI hh (by decide)
  have his : vp_in (nI s) 40 := vp_in_nI hs (by decide)
  refine br_f (nI_nle (by omega) (by omega)) (nm_r (nI_pred h) (And.intro hin (nm_r e1 (And.intro hin (nm_r e2 (And.intro hin (And.intro hin (nm_r e3 (And.intro his (nm_r e4 ?_))))))))))
  have ex : a3 (nI s).toNatClampNeg = nI x := by rw [nI_clamp (by omega)]; exact hx
  refine br_t (by rw [h10]; rfl) (br_f (by rw [h2]; decide) (br_f (by rw [h2]; decide) (And.intro his ?_)))
  have := H _ ⟨o, nu, lo, rfl, hI⟩
  rw [← ex] at this
  exact this
theorem tc_st_if {nA pA : tc_A} {h n p d s ph k m : Nat} {L : List tc_T} {u : SX} (hS : tc_St (tc_r f1 f7 f8 a1 a2 a3 a4 a5 a6 a12 a13 (h + 1) n nA pA) L p d u) (hh : h < 16) (hs : s < 40) (hph : ph < 100) (hA : nA h = nI s) (hP : pA h = nI ph) (hk : a1 s = nI k) (h10 : k = 11)
    (H : ∀ u', tc_St (tc_r f1 f7 f8 a1 a2 a3 a4 a5 a6 a12 a13 (h + 1) n nA (upd pA h (nI (ph + 1)))) L p d u' → wpX_compileIf (fun u => tc_CK post m u) u' (nI s) (nI ph)) : tc_CK post (m + 1) u := by
  obtain ⟨o, nu, lo, rfl, hI⟩ := hS
  have e1 : nA (nI h).toNatClampNeg = nI s := by rw [nI_clamp (by omega)]; exact hA
  have e2 : pA (nI h).toNatClampNeg = nI ph := by rw [nI_clamp (by omega)]; exact hP
  have e3 : upd pA (nI h).toNatClampNeg (vp_nar .byte ((pA (nI h).toNatClampNeg + 1).toInt8.toInt32)) = upd pA h (nI (ph + 1)) := by
    rw [e2, nI_clamp (by omega), vp_nar_byte, nI_1, tc_i8 (by omega), tc_i8 (by omega)]
  have e4 : a1 (nI s).toNatClampNeg = nI k := by rw [nI_clamp (by omega)]; exact hk
  have hin : vp_in (nI h) 16 := vp_in_nI hh (by decide)
  have his : vp_in (nI s) 40 := vp_in_nI hs (by decide)
  refine br_f (nI_nle (by omega) (by omega)) (nm_r (nI_pred h) (And.intro hin (nm_r e1 (And.intro hin (nm_r e2 (And.intro hin (And.intro hin (nm_r e3 (And.intro his (nm_r e4 ?_))))))))))
  exact br_f (by rw [h10]; decide) (br_t (by rw [h10]; rfl) (H _ ⟨o, nu, lo, rfl, hI⟩))
theorem tc_st_rp {nA pA : tc_A} {h n p d s ph k m : Nat} {L : List tc_T} {u : SX} (hS : tc_St (tc_r f1 f7 f8 a1 a2 a3 a4 a5 a6 a12 a13 (h + 1) n nA pA) L p d u) (hh : h < 16) (hs : s < 40) (hph : ph < 100) (hA : nA h = nI s) (hP : pA h = nI ph) (hk : a1 s = nI k) (h10 : k = 12)
    (H : ∀ u', tc_St (tc_r f1 f7 f8 a1 a2 a3 a4 a5 a6 a12 a13 (h + 1) n nA (upd pA h (nI (ph + 1)))) L p d u' → wpX_compileRepeat (fun u => tc_CK post m u) u' (nI s) (nI ph)) : tc_CK post (m + 1) u := by
  obtain ⟨o, nu, lo, rfl, hI⟩ := hS
  have e1 : nA (nI h).toNatClampNeg = nI s := by rw [nI_clamp (by omega)]; exact hA
  have e2 : pA (nI h).toNatClampNeg = nI ph := by rw [nI_clamp (by omega)]; exact hP
  have e3 : upd pA (nI h).toNatClampNeg (vp_nar .byte ((pA (nI h).toNatClampNeg + 1).toInt8.toInt32)) = upd pA h (nI (ph + 1)) := by
    rw [e2, nI_clamp (by omega), vp_nar_byte, nI_1, tc_i8 (by omega), tc_i8 (by omega)]
  have e4 : a1 (nI s).toNatClampNeg = nI k := by rw [nI_clamp (by omega)]; exact hk
  have hin : vp_in (nI h) 16 := vp_in_nI hh (by decide)
  have his : vp_in (nI s) 40 := vp_in_nI hs (by decide)
  refine br_f (nI_nle (by omega) (by omega)) (nm_r (nI_pred h) (And.intro hin (nm_r e1 (And.intro hin (nm_r e2 (And.intro hin (And.intro hin (nm_r e3 (And.intro his (nm_r e4 ?_))))))))))
  exact br_f (by rw [h10]; decide) (br_f (by rw [h10]; decide) (br_t (by rw [h10]; rfl) (H _ ⟨o, nu, lo, rfl, hI⟩)))
theorem tc_st_pl {nA pA : tc_A} {h n p d s ph k m : Nat} {L : List tc_T} {u : SX} (hS : tc_St (tc_r f1 f7 f8 a1 a2 a3 a4 a5 a6 a12 a13 (h + 1) n nA pA) L p d u) (hh : h < 16) (hs : s < 40) (hph : ph < 100) (hA : nA h = nI s) (hP : pA h = nI ph) (hk : a1 s = nI k) (hk13 : k ≤ 13) (h10 : k ≠ 10) (h11 : k ≠ 11) (h12 : k ≠ 12)
    (H : ∀ u', tc_St (tc_r f1 f7 f8 a1 a2 a3 a4 a5 a6 a12 a13 h n nA (upd pA h (nI (ph + 1)))) L p d u' → wpX_compilePlain (fun u => tc_CK post m u) u' (nI k) (a2 s) (a3 s) (a4 s)) : tc_CK post (m + 1) u := by
  obtain ⟨o, nu, lo, rfl, hI⟩ := hS
  have e1 : nA (nI h).toNatClampNeg = nI s := by rw [nI_clamp (by omega)]; exact hA
  have e2 : pA (nI h).toNatClampNeg = nI ph := by rw [nI_clamp (by omega)]; exact hP
  have e3 : upd pA (nI h).toNatClampNeg (vp_nar .byte ((pA (nI h).toNatClampNeg + 1).toInt8.toInt32)) = upd pA h (nI (ph + 1)) := by
    rw [e2, nI_clamp (by omega), vp_nar_byte, nI_1, tc_i8 (by omega), tc_i8 (by omega)]
  have e4 : a1 (nI s).toNatClampNeg = nI k := by rw [nI_clamp (by omega)]; exact hk
  have hin : vp_in (nI h) 16 := vp_in_nI hh (by decide)
  have his : vp_in (nI s) 40 := vp_in_nI hs (by decide)
  refine br_f (nI_nle (by omega) (by omega)) (nm_r (nI_pred h) (And.intro hin (nm_r e1 (And.intro hin (nm_r e2 (And.intro hin (And.intro hin (nm_r e3 (And.intro his (nm_r e4 ?_))))))))))
  have c1 : ¬ nI k = 10 := fun z => h10 ((nI_eq (b := 10) (by omega) (by decide)).mp z)
  have c2 : ¬ nI k = 11 := fun z => h11 ((nI_eq (b := 11) (by omega) (by decide)).mp z)
  have c3 : ¬ nI k = 12 := fun z => h12 ((nI_eq (b := 12) (by omega) (by decide)).mp z)
  have ex : (nI s).toNatClampNeg = s := nI_clamp (by omega)
  refine br_f c1 (br_f c2 (br_f c3 (nm_r (nI_pred h) (And.intro his (And.intro his (And.intro his ?_))))))
  have := H _ ⟨o, nu, lo, rfl, hI⟩
  rw [ex]
  exact this
end
end
section
/-! the parts of conditions and repetitions -/
section
variable {post : SX → Prop} {f1 f7 f8 : Int32} {a1 a2 a3 a4 a5 a6 a12 a13 : tc_A}
theorem tc_held (n : Nat) : 6 + 2 * nI n = nI (6 + 2 * n) := by
  rw [show (2 : Int32) * nI n = nI (2 * n) from pk_mul 2 n]
  exact nI_add 6 (2 * n)
theorem tc_held1 (n : Nat) : 6 + 2 * (nI (n + 1) - 1) = nI (6 + 2 * n) := by
  rw [nI_pred]; exact tc_held n
theorem tc_if0 {nA pA : tc_A} {h n p d s x y : Nat} {L : List tc_T} {u : SX} (hS : tc_St (tc_r f1 f7 f8 a1 a2 a3 a4 a5 a6 a12 a13 (h + 1) n nA pA) L p d u) (hs : s < 40) (ex : a2 s = nI x) (ey : a3 s = nI y) (hx : x < 6) (hy : y < 128) (hn : n ≤ 1) (hp : p < 96) (hd : d < 16) (hh : h + 1 < 16)
    (hl : L.length + (tc_copy p x (6 + 2 * n) ++ tc_mv 19 (6 + 2 * n + 1) ++ [(1, 1)] ++ tc_mv (6 + 2 * n + 1) (6 + 2 * n) ++ [(2, 0)]).length ≤ 2400)
    (H : ∀ u', tc_St (tc_r f1 f7 f8 a1 a2 a3 a4 a5 a6 a12 a13 (h + 2) (n + 1) (upd nA (h + 1) (nI y)) (upd pA (h + 1) 0)) (L ++ (tc_copy p x (6 + 2 * n) ++ tc_mv 19 (6 + 2 * n + 1) ++ [(1, 1)] ++ tc_mv (6 + 2 * n + 1) (6 + 2 * n) ++ [(2, 0)])) (6 + 2 * n) (d + 1) u' → post u') : wpX_compileIf post u (nI s) (nI 0) := by
  obtain ⟨o, nu, lo, rfl, hI⟩ := hS
  have his : vp_in (nI s) 40 := vp_in_nI hs (by decide)
  have ex' : a2 (nI s).toNatClampNeg = nI x := by rw [nI_clamp (by omega)]; exact ex
  have ey' : a3 (nI s).toNatClampNeg = nI y := by rw [nI_clamp (by omega)]; exact ey
  refine br_t rfl (nm_r (tc_held n) (nm_r (nI_1 n) (And.intro his ?_)))
  rw [nI_1 (6 + 2 * n)]
  have E := (((tc_Em_copy (p := p) (d := d) (a := x) (b := 6 + 2 * n) hp (by omega) (by omega) hd).seq ((tc_Em_grow (p := 19) (q := 6 + 2 * n + 1) (k := 1) (by decide) (by omega) (by decide)).seq (tc_Em_open (p := 6 + 2 * n + 1) (q := 6 + 2 * n) (by omega) (by omega) hd)))).cv (fun _ _ h => h) (show _ = tc_copy p x (6 + 2 * n) ++ tc_mv 19 (6 + 2 * n + 1) ++ [(1, 1)] ++ tc_mv (6 + 2 * n + 1) (6 + 2 * n) ++ [(2, 0)] by simp)
  have E' := E (tc_r f1 f7 f8 a1 a2 a3 a4 a5 a6 a12 a13 (h + 1) (n + 1) nA pA) L _ ⟨o, nu, lo, rfl, hI⟩ hl (fun u => vp_in (nI s) 40 ∧ wpX_enter post u (u.2.2.2.2.2.2.2.2.2.2.1 (nI s).toNatClampNeg)) (by
    intro u' hS'
    obtain ⟨o', nu', lo', rfl, hI'⟩ := hS'
    refine And.intro his ?_
    have := tc_enter (post := post) (s := y) ⟨o', nu', lo', rfl, hI'⟩ hh hy H
    rw [← ey'] at this
    exact this)
  rw [← ex'] at E'
  exact E'
theorem tc_if1 {nA pA : tc_A} {h n p d s z : Nat} {L : List tc_T} {u : SX} (hS : tc_St (tc_r f1 f7 f8 a1 a2 a3 a4 a5 a6 a12 a13 (h + 1) (n + 1) nA pA) L p (d + 1) u) (hs : s < 40) (ez : a4 s = nI z) (hz : z < 128) (hn : n ≤ 1) (hp : p < 96) (hd : d + 1 < 16) (hh : h + 1 < 16)
    (hl : L.length + (tc_clear p (6 + 2 * n) ++ tc_mv (6 + 2 * n) (6 + 2 * n + 1) ++ [(1, 15)] ++ tc_mv (6 + 2 * n + 1) (6 + 2 * n) ++ [(3, 0)] ++ tc_mv (6 + 2 * n) (6 + 2 * n + 1) ++ [(2, 0)]).length ≤ 2400)
    (H : ∀ u', tc_St (tc_r f1 f7 f8 a1 a2 a3 a4 a5 a6 a12 a13 (h + 2) (n + 1) (upd nA (h + 1) (nI z)) (upd pA (h + 1) 0)) (L ++ (tc_clear p (6 + 2 * n) ++ tc_mv (6 + 2 * n) (6 + 2 * n + 1) ++ [(1, 15)] ++ tc_mv (6 + 2 * n + 1) (6 + 2 * n) ++ [(3, 0)] ++ tc_mv (6 + 2 * n) (6 + 2 * n + 1) ++ [(2, 0)])) (6 + 2 * n + 1) (d + 1) u' → post u') : wpX_compileIf post u (nI s) (nI 1) := by
  obtain ⟨o, nu, lo, rfl, hI⟩ := hS
  have his : vp_in (nI s) 40 := vp_in_nI hs (by decide)
  have ez' : a4 (nI s).toNatClampNeg = nI z := by rw [nI_clamp (by omega)]; exact ez
  refine br_f (by decide) (nm_r (tc_held1 n) (br_t rfl ?_))
  rw [nI_1 (6 + 2 * n)]
  have E := (((tc_Em_clear (p := p) (d := d + 1) (q := 6 + 2 * n) hp (by omega) hd).seq ((tc_Em_grow (p := 6 + 2 * n) (q := 6 + 2 * n + 1) (k := 15) (by omega) (by omega) (by decide)).seq ((tc_Em_close (p := 6 + 2 * n + 1) (q := 6 + 2 * n) (by omega) (by omega) (by omega)).seq (tc_Em_open (p := 6 + 2 * n) (q := 6 + 2 * n + 1) (by omega) (by omega) (by omega)))))).cv (fun _ _ h => h) (show _ = tc_clear p (6 + 2 * n) ++ tc_mv (6 + 2 * n) (6 + 2 * n + 1) ++ [(1, 15)] ++ tc_mv (6 + 2 * n + 1) (6 + 2 * n) ++ [(3, 0)] ++ tc_mv (6 + 2 * n) (6 + 2 * n + 1) ++ [(2, 0)] by simp)
  exact E (tc_r f1 f7 f8 a1 a2 a3 a4 a5 a6 a12 a13 (h + 1) (n + 1) nA pA) L _ ⟨o, nu, lo, rfl, hI⟩ hl (fun u => vp_in (nI s) 40 ∧ wpX_enter post u (u.2.2.2.2.2.2.2.2.2.2.2.1 (nI s).toNatClampNeg)) (by
    intro u' hS'
    obtain ⟨o', nu', lo', rfl, hI'⟩ := hS'
    refine And.intro his ?_
    have := tc_enter (post := post) (s := z) ⟨o', nu', lo', rfl, hI'⟩ hh hz H
    rw [← ez'] at this
    exact this)
theorem tc_if2 {nA pA : tc_A} {h n p d s : Nat} {L : List tc_T} {u : SX} (hS : tc_St (tc_r f1 f7 f8 a1 a2 a3 a4 a5 a6 a12 a13 (h + 1) (n + 1) nA pA) L p (d + 1) u) (hn : n ≤ 1) (hp : p < 96) (hd : d + 1 < 16)
    (hl : L.length + (tc_mv p (6 + 2 * n + 1) ++ [(1, 15)] ++ [(3, 0)]).length ≤ 2400)
    (H : ∀ u', tc_St (tc_r f1 f7 f8 a1 a2 a3 a4 a5 a6 a12 a13 h n nA pA) (L ++ (tc_mv p (6 + 2 * n + 1) ++ [(1, 15)] ++ [(3, 0)])) (6 + 2 * n + 1) d u' → post u') : wpX_compileIf post u (nI s) (nI 2) := by
  obtain ⟨o, nu, lo, rfl, hI⟩ := hS
  refine br_f (by decide) (nm_r (tc_held1 n) (br_f (by decide) ?_))
  rw [nI_1 (6 + 2 * n)]
  have E := (((tc_Em_grow (p := p) (d := d + 1) (q := 6 + 2 * n + 1) (k := 15) hp (by omega) (by decide)).seq (tc_Em_close (p := 6 + 2 * n + 1) (q := 6 + 2 * n + 1) (by omega) (by omega) (by omega)))).cv (fun _ _ h => h) (show _ = tc_mv p (6 + 2 * n + 1) ++ [(1, 15)] ++ [(3, 0)] by simp [tc_mv_s])
  refine E (tc_r f1 f7 f8 a1 a2 a3 a4 a5 a6 a12 a13 (h + 1) (n + 1) nA pA) L _ ⟨o, nu, lo, rfl, hI⟩ hl _ ?_
  intro u' hS'
  obtain ⟨o', nu', lo', rfl, hI'⟩ := hS'
  exact nm_r (nI_pred n) (nm_r (nI_pred h) (H _ ⟨o', nu', lo', rfl, hI'⟩))
theorem tc_rp0 {nA pA : tc_A} {h n p d s x y : Nat} {L : List tc_T} {u : SX} (hS : tc_St (tc_r f1 f7 f8 a1 a2 a3 a4 a5 a6 a12 a13 (h + 1) n nA pA) L p d u) (hs : s < 40) (ex : a2 s = nI x) (ey : a3 s = nI y) (hx : x < 6) (hy : y < 128) (hn : n ≤ 1) (hp : p < 96) (hd : d < 16) (hh : h + 1 < 16)
    (hl : L.length + (tc_copy p x (6 + 2 * n) ++ tc_mv 19 (6 + 2 * n) ++ [(2, 0)] ++ [(1, 15)]).length ≤ 2400)
    (H : ∀ u', tc_St (tc_r f1 f7 f8 a1 a2 a3 a4 a5 a6 a12 a13 (h + 2) (n + 1) (upd nA (h + 1) (nI y)) (upd pA (h + 1) 0)) (L ++ (tc_copy p x (6 + 2 * n) ++ tc_mv 19 (6 + 2 * n) ++ [(2, 0)] ++ [(1, 15)])) (6 + 2 * n) (d + 1) u' → post u') : wpX_compileRepeat post u (nI s) (nI 0) := by
  obtain ⟨o, nu, lo, rfl, hI⟩ := hS
  have his : vp_in (nI s) 40 := vp_in_nI hs (by decide)
  have ex' : a2 (nI s).toNatClampNeg = nI x := by rw [nI_clamp (by omega)]; exact ex
  have ey' : a3 (nI s).toNatClampNeg = nI y := by rw [nI_clamp (by omega)]; exact ey
  refine br_t rfl (nm_r (tc_held n) (nm_r (nI_1 n) (And.intro his ?_)))
  have E := (((tc_Em_copy (p := p) (d := d) (a := x) (b := 6 + 2 * n) hp (by omega) (by omega) hd).seq ((tc_Em_open (p := 19) (q := 6 + 2 * n) (by decide) (by omega) hd).seq (tc_Em_grow (p := 6 + 2 * n) (q := 6 + 2 * n) (k := 15) (by omega) (by omega) (by decide))))).cv (fun _ _ h => h) (show _ = tc_copy p x (6 + 2 * n) ++ tc_mv 19 (6 + 2 * n) ++ [(2, 0)] ++ [(1, 15)] by simp [tc_mv_s])
  have E' := E (tc_r f1 f7 f8 a1 a2 a3 a4 a5 a6 a12 a13 (h + 1) (n + 1) nA pA) L _ ⟨o, nu, lo, rfl, hI⟩ hl (fun u => vp_in (nI s) 40 ∧ wpX_enter post u (u.2.2.2.2.2.2.2.2.2.2.1 (nI s).toNatClampNeg)) (by
    intro u' hS'
    obtain ⟨o', nu', lo', rfl, hI'⟩ := hS'
    refine And.intro his ?_
    have := tc_enter (post := post) (s := y) ⟨o', nu', lo', rfl, hI'⟩ hh hy H
    rw [← ey'] at this
    exact this)
  rw [← ex'] at E'
  exact E'
theorem tc_rp1 {nA pA : tc_A} {h n p d s : Nat} {L : List tc_T} {u : SX} (hS : tc_St (tc_r f1 f7 f8 a1 a2 a3 a4 a5 a6 a12 a13 (h + 1) (n + 1) nA pA) L p (d + 1) u) (hn : n ≤ 1) (hp : p < 96) (hd : d + 1 < 16)
    (hl : L.length + (tc_mv p (6 + 2 * n) ++ [(3, 0)]).length ≤ 2400)
    (H : ∀ u', tc_St (tc_r f1 f7 f8 a1 a2 a3 a4 a5 a6 a12 a13 h n nA pA) (L ++ (tc_mv p (6 + 2 * n) ++ [(3, 0)])) (6 + 2 * n) d u' → post u') : wpX_compileRepeat post u (nI s) (nI 1) := by
  obtain ⟨o, nu, lo, rfl, hI⟩ := hS
  refine br_f (by decide) (nm_r (tc_held1 n) ?_)
  refine (tc_Em_close (p := p) (q := 6 + 2 * n) hp (by omega) (by omega)) (tc_r f1 f7 f8 a1 a2 a3 a4 a5 a6 a12 a13 (h + 1) (n + 1) nA pA) L _ ⟨o, nu, lo, rfl, hI⟩ hl _ ?_
  intro u' hS'
  obtain ⟨o', nu', lo', rfl, hI'⟩ := hS'
  exact nm_r (nI_pred n) (nm_r (nI_pred h) (H _ ⟨o', nu', lo', rfl, hI'⟩))
end
end
section
/-! compiling a statement writes its code -/
def tc_cn (kk xx yy zz : Nat → Nat) : Nat → Nat → Nat
  | 0, _ => 0
  | f + 1, s =>
    if kk s = 10 then 3 + tc_cn kk xx yy zz f (xx s) + tc_cn kk xx yy zz f (yy s)
    else if kk s = 11 then 3 + tc_cn kk xx yy zz f (yy s) + tc_cn kk xx yy zz f (zz s)
    else if kk s = 12 then 2 + tc_cn kk xx yy zz f (yy s)
    else 1
def tc_XR (kk xx yy zz : Nat → Nat) (sc : Nat) (a1 a2 a3 a4 : tc_A) : Prop := ∀ s, s < sc → a1 s = nI (kk s) ∧ a2 s = nI (xx s) ∧ (kk s ≠ 9 → a3 s = nI (yy s)) ∧ (kk s = 4 ∨ kk s = 5 ∨ kk s = 6 ∨ kk s = 11 ∨ kk s = 13 → a4 s = nI (zz s))
section
variable {post : SX → Prop} {f1 f7 f8 : Int32} {a1 a2 a3 a4 a5 a6 a12 a13 : tc_A} {kk xx yy zz ww nn : Nat → Nat} {sc : Nat}
theorem tc_cmp (hv : tc_vd kk xx yy zz ww nn sc) (hX : tc_XR kk xx yy zz sc a1 a2 a3 a4) (hsc : sc ≤ 40) : ∀ (f s h n p d m : Nat) (L : List tc_T) (nA pA : tc_A) (u : SX), s < f → s < sc → n + nn s ≤ 2 → h + ww s ≤ 16 → p < 96 → d + nn s ≤ 6 →
    L.length + (tc_cg kk xx yy zz f s n p).1.length ≤ 2400 → nA h = nI s → pA h = nI 0 → tc_St (tc_r f1 f7 f8 a1 a2 a3 a4 a5 a6 a12 a13 (h + 1) n nA pA) L p d u →
    (∀ (nA' pA' : tc_A) (u' : SX), (∀ i, i < h → nA' i = nA i ∧ pA' i = pA i) → tc_St (tc_r f1 f7 f8 a1 a2 a3 a4 a5 a6 a12 a13 h n nA' pA') (L ++ (tc_cg kk xx yy zz f s n p).1) (tc_cg kk xx yy zz f s n p).2 d u' → tc_CK post m u') →
    tc_CK post (m + tc_cn kk xx yy zz f s) u := by
  intro f
  induction f with
  | zero => intro s h n p d m L nA pA u hf; omega
  | succ f ih =>
    intro s h n p d m L nA pA u hf hs hn hw hp hd hl hA hP hS H
    obtain ⟨v0, v1, v2, v3, v4⟩ := hv s hs
    obtain ⟨x1, x2, x3, x4⟩ := hX s hs
    simp only [tc_cg] at hl H
    simp only [tc_cn]
    by_cases h10 : kk s = 10
    · rw [if_pos h10] at hl
      simp only [if_pos h10] at H ⊢
      obtain ⟨a, b, c, e, g⟩ := v1 h10
      obtain ⟨w1, _⟩ := hv (xx s) (by omega)
      obtain ⟨w2, _⟩ := hv (yy s) (by omega)
      have hpa := tc_cg_at hv f (xx s) n p (by omega) (by omega) (by omega)
      simp only [List.length_append] at hl
      rw [show m + (3 + tc_cn kk xx yy zz f (xx s) + tc_cn kk xx yy zz f (yy s)) = (m + 2 + tc_cn kk xx yy zz f (yy s) + tc_cn kk xx yy zz f (xx s)) + 1 by omega]
      refine tc_st_t0 hS (by omega) (by omega) (by decide) hA hP x1 h10 rfl x2 ?_
      intro u1 hS1
      refine tc_enter hS1 (by omega) (by omega) ?_
      intro u2 hS2
      refine ih (xx s) (h + 1) n p d _ L _ _ u2 (by omega) (by omega) (by omega) (by omega) hp (by omega) (by omega) pk_us pk_us hS2 ?_
      intro nA' pA' u3 hag hS3
      obtain ⟨g1, g2⟩ := hag h (by omega)
      rw [pk_un (by omega)] at g1 g2
      rw [pk_us] at g2
      rw [show m + 2 + tc_cn kk xx yy zz f (yy s) = (m + 1 + tc_cn kk xx yy zz f (yy s)) + 1 by omega]
      refine tc_st_t1 hS3 (by omega) (by omega) (by decide) (g1.trans hA) g2 x1 h10 rfl (x3 (by omega)) ?_
      intro u4 hS4
      refine tc_enter hS4 (by omega) (by omega) ?_
      intro u5 hS5
      refine ih (yy s) (h + 1) n _ d _ (L ++ (tc_cg kk xx yy zz f (xx s) n p).1) _ _ u5 (by omega) (by omega) (by omega) (by omega) hpa (by omega) (by rw [List.length_append]; omega) pk_us pk_us hS5 ?_
      intro nA'' pA'' u6 hag2 hS6
      obtain ⟨k1, k2⟩ := hag2 h (by omega)
      rw [pk_un (by omega)] at k1 k2
      rw [pk_us] at k2
      refine tc_st_t2 hS6 (by omega) (by omega) (by decide) (k1.trans (g1.trans hA)) k2 x1 h10 rfl ?_
      intro u7 hS7
      refine H nA'' _ u7 ?_ (by rw [← List.append_assoc]; exact hS7)
      intro i hi
      obtain ⟨j1, j2⟩ := hag i (by omega)
      obtain ⟨j3, j4⟩ := hag2 i (by omega)
      rw [pk_un (by omega)] at j1 j2 j3 j4
      rw [pk_un (by omega)] at j2 j4
      refine ⟨j3.trans j1, ?_⟩
      rw [pk_un (by omega)]
      exact j4.trans j2
    rw [if_neg h10] at hl
    simp only [if_neg h10] at H ⊢
    by_cases h11 : kk s = 11
    · rw [if_pos h11] at hl
      simp only [if_pos h11] at H ⊢
      obtain ⟨a, b, c, e, g, g'⟩ := v2 h11
      obtain ⟨w1, _⟩ := hv (yy s) (by omega)
      obtain ⟨w2, _⟩ := hv (zz s) (by omega)
      have hpa := tc_cg_at hv f (yy s) (n + 1) (6 + 2 * n) (by omega) (by omega) (by omega)
      have hpb := tc_cg_at hv f (zz s) (n + 1) (6 + 2 * n + 1) (by omega) (by omega) (by omega)
      simp only [tc_ifc, tc_ifA, tc_ifB, tc_lp_len, List.length_append, List.length_cons, List.length_nil] at hl
      rw [show m + (3 + tc_cn kk xx yy zz f (yy s) + tc_cn kk xx yy zz f (zz s)) = (m + 2 + tc_cn kk xx yy zz f (zz s) + tc_cn kk xx yy zz f (yy s)) + 1 by omega]
      refine tc_st_if hS (by omega) (by omega) (by decide) hA hP x1 h11 ?_
      intro u1 hS1
      refine tc_if0 hS1 (by omega) x2 (x3 (by omega)) a (by omega) (by omega) hp (by omega) (by omega) (by simp only [List.length_append, List.length_cons, List.length_nil]; omega) ?_
      intro u2 hS2
      refine ih (yy s) (h + 1) (n + 1) _ (d + 1) _ _ _ _ u2 (by omega) (by omega) (by omega) (by omega) (by omega) (by omega) (by simp only [List.length_append, List.length_cons, List.length_nil]; omega) pk_us pk_us hS2 ?_
      intro nA' pA' u3 hag hS3
      obtain ⟨g1, g2⟩ := hag h (by omega)
      rw [pk_un (by omega)] at g1 g2
      rw [pk_us] at g2
      rw [show m + 2 + tc_cn kk xx yy zz f (zz s) = (m + 1 + tc_cn kk xx yy zz f (zz s)) + 1 by omega]
      refine tc_st_if hS3 (by omega) (by omega) (by decide) (g1.trans hA) g2 x1 h11 ?_
      intro u4 hS4
      refine tc_if1 hS4 (by omega) (x4 (by omega)) (by omega) (by omega) hpa (by omega) (by omega) (by simp only [List.length_append, tc_clear, tc_lp_len, List.length_cons, List.length_nil] at hl ⊢; omega) ?_
      intro u5 hS5
      refine ih (zz s) (h + 1) (n + 1) _ (d + 1) _ _ _ _ u5 (by omega) (by omega) (by omega) (by omega) (by omega) (by omega) (by simp only [List.length_append, tc_clear, tc_lp_len, List.length_cons, List.length_nil] at hl ⊢; omega) pk_us pk_us hS5 ?_
      intro nA'' pA'' u6 hag2 hS6
      obtain ⟨k1, k2⟩ := hag2 h (by omega)
      rw [pk_un (by omega)] at k1 k2
      rw [pk_us] at k2
      refine tc_st_if hS6 (by omega) (by omega) (by decide) (k1.trans (g1.trans hA)) k2 x1 h11 ?_
      intro u7 hS7
      refine tc_if2 hS7 (by omega) hpb (by omega) (by simp only [List.length_append, tc_clear, tc_lp_len, List.length_cons, List.length_nil] at hl ⊢; omega) ?_
      intro u8 hS8
      refine H nA'' (upd pA'' h (nI (0 + 1 + 1 + 1))) u8 ?_ ?_
      · intro i hi
        obtain ⟨j1, j2⟩ := hag i (by omega)
        obtain ⟨j3, j4⟩ := hag2 i (by omega)
        rw [pk_un (by omega)] at j1 j2 j3 j4
        rw [pk_un (by omega)] at j2 j4
        refine ⟨j3.trans j1, ?_⟩
        rw [pk_un (by omega)]
        exact j4.trans j2
      · have eL : ∀ (A B : List tc_T × Nat), L ++ (tc_copy p (xx s) (6 + 2 * n) ++ tc_mv 19 (6 + 2 * n + 1) ++ [(1, 1)] ++ tc_mv (6 + 2 * n + 1) (6 + 2 * n) ++ [(2, 0)]) ++ A.1 ++ (tc_clear A.2 (6 + 2 * n) ++ tc_mv (6 + 2 * n) (6 + 2 * n + 1) ++ [(1, 15)] ++ tc_mv (6 + 2 * n + 1) (6 + 2 * n) ++ [(3, 0)] ++ tc_mv (6 + 2 * n) (6 + 2 * n + 1) ++ [(2, 0)]) ++ B.1 ++ (tc_mv B.2 (6 + 2 * n + 1) ++ [(1, 15)] ++ [(3, 0)]) = L ++ tc_ifc p (xx s) (6 + 2 * n) A B := by
          intro A B
          simp [tc_ifc, tc_ifA, tc_ifB, tc_lp]
        rw [← eL]
        exact hS8
    rw [if_neg h11] at hl
    simp only [if_neg h11] at H ⊢
    by_cases h12 : kk s = 12
    · rw [if_pos h12] at hl
      simp only [if_pos h12] at H ⊢
      obtain ⟨a, b, c, e⟩ := v3 h12
      obtain ⟨w1, _⟩ := hv (yy s) (by omega)
      have hpa := tc_cg_at hv f (yy s) (n + 1) (6 + 2 * n) (by omega) (by omega) (by omega)
      simp only [tc_rpc, tc_rpA, tc_lp_len, List.length_append, List.length_cons, List.length_nil] at hl
      rw [show m + (2 + tc_cn kk xx yy zz f (yy s)) = (m + 1 + tc_cn kk xx yy zz f (yy s)) + 1 by omega]
      refine tc_st_rp hS (by omega) (by omega) (by decide) hA hP x1 h12 ?_
      intro u1 hS1
      refine tc_rp0 hS1 (by omega) x2 (x3 (by omega)) a (by omega) (by omega) hp (by omega) (by omega) (by simp only [List.length_append, List.length_cons, List.length_nil]; omega) ?_
      intro u2 hS2
      refine ih (yy s) (h + 1) (n + 1) _ (d + 1) _ _ _ _ u2 (by omega) (by omega) (by omega) (by omega) (by omega) (by omega) (by simp only [List.length_append, List.length_cons, List.length_nil]; omega) pk_us pk_us hS2 ?_
      intro nA' pA' u3 hag hS3
      obtain ⟨g1, g2⟩ := hag h (by omega)
      rw [pk_un (by omega)] at g1 g2
      rw [pk_us] at g2
      refine tc_st_rp hS3 (by omega) (by omega) (by decide) (g1.trans hA) g2 x1 h12 ?_
      intro u4 hS4
      refine tc_rp1 hS4 (by omega) hpa (by omega) (by simp only [List.length_append, List.length_cons, List.length_nil] at hl ⊢; omega) ?_
      intro u5 hS5
      refine H nA' (upd pA' h (nI (0 + 1 + 1))) u5 ?_ ?_
      · intro i hi
        obtain ⟨j1, j2⟩ := hag i (by omega)
        rw [pk_un (by omega)] at j1 j2
        rw [pk_un (by omega)] at j2
        refine ⟨j1, ?_⟩
        rw [pk_un (by omega)]
        exact j2
      · have eL : ∀ (A : List tc_T × Nat), L ++ (tc_copy p (xx s) (6 + 2 * n) ++ tc_mv 19 (6 + 2 * n) ++ [(2, 0)] ++ [(1, 15)]) ++ A.1 ++ (tc_mv A.2 (6 + 2 * n) ++ [(3, 0)]) = L ++ tc_rpc p (xx s) (6 + 2 * n) A := by
          intro A
          simp [tc_rpc, tc_rpA, tc_lp]
        rw [← eL]
        exact hS5
    rw [if_neg h12] at hl
    simp only [if_neg h12] at H ⊢
    refine tc_st_pl hS (by omega) (by omega) (by decide) hA hP x1 v0.1 h10 h11 h12 ?_
    intro u1 hS1
    rw [x2]
    refine (tc_Em_plain (d := d) v0.1 h10 h11 h12 (v4 h10 h11 h12) x3 (fun z => x4 (by omega)) hp (by omega)) (tc_r f1 f7 f8 a1 a2 a3 a4 a5 a6 a12 a13 h n nA (upd pA h (nI (0 + 1)))) L u1 hS1 hl _ ?_
    intro u2 hS2
    refine H nA _ u2 ?_ hS2
    intro i hi
    exact ⟨rfl, pk_un (by omega)⟩
end
end
section
/-! a run of the component -/
section
variable {kk xx yy zz ww nn : Nat → Nat} {sc : Nat} {f2 f3 f4 f5 f6 f7 f8 : Int32} {a1 a2 a3 a4 a5 a6 o nu lo nA pA pl : tc_A} {t : Nat → Fin 16}
theorem tc_small (hv : tc_vd kk xx yy zz ww nn sc) {s : Nat} (hs : s < sc) : ww s * 15 ^ nn s ≤ 2700 := by
  obtain ⟨⟨v1, v2, v3, v4⟩, _⟩ := hv s hs
  exact Nat.le_trans (tc_cost v3 v4) (by decide)
theorem tc_runX {post : Int32 → SX → Prop} (hv : tc_vd kk xx yy zz ww nn sc) (hX : tc_XR kk xx yy zz sc a1 a2 a3 a4) (hsc : sc ≤ 40) {f s : Nat} (hf : s < f) (hs : s < sc) (hz : tc_Zn 0 t)
    (H : ∀ (g2 g3 g4 g5 g6 : Int32) (o' nu' lo' nA' pA' : tc_A), post (nI (tc_ev kk xx yy zz f s (t, (0, pl))).2.1) (nI sc, g2, g3, g4, g5, g6, f7, nI (tc_ev kk xx yy zz f s (t, (0, pl))).2.1, a1, a2, a3, a4, a5, a6, o', nu', lo', nA', pA', tc_tp (tc_ev kk xx yy zz f s (t, (0, pl))).1, (tc_ev kk xx yy zz f s (t, (0, pl))).2.2)) :
    wpX_run post (nI sc, f2, f3, f4, f5, f6, f7, f8, a1, a2, a3, a4, a5, a6, o, nu, lo, nA, pA, tc_tp t, pl) (nI s) := by
  obtain ⟨⟨v1, v2, v3, v4⟩, _⟩ := hv s hs
  have hlen := tc_cg_len hv f s 0 0 (by omega) hs
  have hE := tc_Do_cg hv f s 0 0 (by omega) hs (by omega) t (0, pl) hz (by have := tc_small hv hs; dsimp only; omega)
  refine br_f (nI_pos (by omega)) (br_f (nI_ge hs (by omega)) (br_f (by decide) ?_))
  unfold wpX_compile
  refine tc_enter (f1 := nI sc) (f7 := f7) (f8 := f8) (a1 := a1) (a2 := a2) (a3 := a3) (a4 := a4) (a5 := a5) (a6 := a6) (a12 := tc_tp t) (a13 := pl) (nA := nA) (pA := pA) (h := 0) (n := 0) (p := 0) (d := 0) (s := s) (L := []) ⟨o, nu, lo, rfl, tc_EI_0 o nu lo⟩ (by decide) (by omega) ?_
  intro u1 hS1
  refine ⟨1 + tc_cn kk xx yy zz f s, ?_⟩
  refine tc_cmp hv hX hsc f s 0 0 0 0 1 [] _ _ u1 (by omega) hs (by omega) (by omega) (by decide) (by omega) (by simp only [List.length_nil]; omega) pk_us pk_us hS1 ?_
  intro nA' pA' u2 _ hS2
  obtain ⟨o', nu', lo', rfl, hI'⟩ := hS2
  rw [List.nil_append] at hI' ⊢
  refine br_t (show nI 0 ≤ 0 by decide) ?_
  exact tc_work (q := (0, pl)) (by omega) hI' hE (H _ _ _ _ _ o' nu' lo' nA' pA')
end
end
section
/-! the reference: plain statements -/
def tc_YV (t : Nat → Fin 16) (va el : tc_A) : Prop := (∀ j, j < 6 → va j = nI (t j).val) ∧ (∀ i, i < 16 → el i = nI (t (27 + 4 * i)).val)
theorem tc_YV_u {t : Nat → Fin 16} {va el : tc_A} {x : Nat} {v : Fin 16} {w : Int32} (h : tc_YV t va el) (hx : x < 6) (hw : w = nI v.val) : tc_YV (tc_fu t x v) (upd va x w) el := by
  refine ⟨fun j hj => ?_, fun i hi => ?_⟩
  · by_cases e : j = x
    · rw [e, pk_us, tc_fu_s]; exact hw
    · rw [pk_un e, tc_fu_n e]; exact h.1 j hj
  · rw [tc_fu_n (by omega)]; exact h.2 i hi
theorem tc_YV_e {t : Nat → Fin 16} {va el : tc_A} {i : Nat} {v : Fin 16} (h : tc_YV t va el) : tc_YV (tc_fu t (27 + 4 * i) v) va (upd el i (nI v.val)) := by
  refine ⟨fun j hj => ?_, fun j hj => ?_⟩
  · rw [tc_fu_n (by omega)]; exact h.1 j hj
  · by_cases e : j = i
    · rw [e, pk_us, tc_fu_s]
    · rw [pk_un e, tc_fu_n (by omega)]; exact h.2 j hj
theorem tc_v_add : ∀ a b : Fin 16, (nI a.val + nI b.val) &&& 15 = nI (a + b).val := by decide +kernel
theorem tc_v_sub : ∀ a b : Fin 16, (nI a.val - nI b.val) &&& 15 = nI (a - b).val := by decide +kernel
theorem tc_v_mul : ∀ a b : Fin 16, (nI a.val * nI b.val) &&& 15 = nI (a * b).val := by decide +kernel
theorem tc_v_div : ∀ a b : Fin 16, (nI a.val / nI b.val) &&& 15 = nI (a / b).val := by decide +kernel
theorem tc_v_id : ∀ a : Fin 16, nI a.val &&& 15 = nI a.val := by decide +kernel
theorem tc_v_eq : ∀ a b : Fin 16, nI a.val = nI b.val → a = b := by decide +kernel

section
variable {g1 g2 g3 : Int32} {b1 b2 b3 b4 b5 b6 va el be ti ou : tc_A} {t : Nat → Fin 16}
theorem tc_yres {post : Int32 → Prop} {k x y z : Nat} {C : Int32} (hk : k ≤ 13) (h0 : k ≠ 0) (h8 : k ≠ 8) (h9 : k ≠ 9) (h10 : k ≠ 10) (h11 : k ≠ 11) (h12 : k ≠ 12) (hC : k = 4 ∨ k = 5 ∨ k = 6 ∨ k = 13 → C = nI (t z).val) (hV : tc_YV t va el)
    (H : ∀ r, r &&& 15 = nI (tc_rs k x y z t).val → post r) : wpY_result post (g1, g2, g3, b1, b2, b3, b4, b5, b6, va, el, be, ti, ou) (nI k) (nI (t x).val) (nI (t y).val) C := by
  have hb := (t y).isLt
  by_cases k1 : k = 1
  · subst k1
    exact br_f (by decide) (br_f (by decide) (br_f (by decide) (br_f (by decide) (br_f (by decide) (br_f (by decide) (br_f (by decide) (H _ (tc_v_id (t y)))))))))
  by_cases k2 : k = 2
  · subst k2
    exact br_t (by decide) (H _ (tc_v_add (t x) (t y)))
  by_cases k3 : k = 3
  · subst k3
    exact br_f (by decide) (br_t (by decide) (H _ (tc_v_sub (t x) (t y))))
  by_cases k7 : k = 7
  · subst k7
    refine br_f (by decide) (br_f (by decide) (br_f (by decide) (br_f (by decide) (br_f (by decide) (br_t (by decide) (And.intro (vp_in_nI hb (by decide)) (H _ ?_)))))))
    rw [nI_clamp (by omega), hV.2 _ hb]
    exact tc_v_id _
  have eC := hC (by omega)
  subst eC
  by_cases k4 : k = 4
  · subst k4
    exact br_f (by decide) (br_f (by decide) (br_t (by decide) (H _ (tc_v_mul (t y) (t z)))))
  by_cases k5 : k = 5
  · subst k5
    refine br_f (by decide) (br_f (by decide) (br_f (by decide) (br_t (by decide) ?_)))
    by_cases h : t y < t z
    · have e : tc_rs 5 x y z t = 1 := if_pos h
      rw [e] at H
      exact br_f (nI_ge h (by omega)) (H 1 (by decide))
    · have e : tc_rs 5 x y z t = 0 := if_neg h
      rw [e] at H
      exact br_t (nI_le (by have := Fin.not_lt.mp h; exact this) (by omega)) (H 0 (by decide))
  by_cases k6 : k = 6
  · subst k6
    refine br_f (by decide) (br_f (by decide) (br_f (by decide) (br_f (by decide) (br_t (by decide) ?_))))
    by_cases h : t y = t z
    · have e : tc_rs 6 x y z t = 1 := if_pos h
      rw [e] at H
      exact br_t (by rw [h]) (H 1 (by decide))
    · have e : tc_rs 6 x y z t = 0 := if_neg h
      rw [e] at H
      exact br_f (fun w => h (tc_v_eq _ _ w)) (H 0 (by decide))
  have k13 : k = 13 := by omega
  subst k13
  refine br_f (by decide) (br_f (by decide) (br_f (by decide) (br_f (by decide) (br_f (by decide) (br_f (by decide) (br_t (by decide) ?_))))))
  by_cases h : t z = 0
  · have e : tc_rs 13 x y z t = 0 := if_pos h
    rw [e] at H
    exact br_t (by rw [h]; decide) (H 0 (by decide))
  · have e : tc_rs 13 x y z t = t y / t z := if_neg h
    rw [e] at H
    have hn := tc_nI_f _ h
    exact br_f hn (br_f hn (And.intro hn (H _ (tc_v_div _ _))))

theorem tc_ysimple {post : SY → Prop} {q : tc_Q} {k x y z s : Nat} (hs : s < 40) (e1 : b1 s = nI k) (e2 : b2 s = nI x) (e3 : k ≠ 9 → b3 s = nI y) (e4 : k = 4 ∨ k = 5 ∨ k = 6 ∨ k = 13 → b4 s = nI z) (hk : k ≤ 13) (h10 : k ≠ 10) (h11 : k ≠ 11) (h12 : k ≠ 12) (hv : tc_vp k x y z) (hV : tc_YV t va el) (hq : q.1 < 100000)
    (H : ∀ va' el', tc_YV (tc_pe k x y z (t, q)).1 va' el' → post (g1, g2, nI (tc_pe k x y z (t, q)).2.1, b1, b2, b3, b4, b5, b6, va', el', be, ti, (tc_pe k x y z (t, q)).2.2)) : wpY_simple post (g1, g2, nI q.1, b1, b2, b3, b4, b5, b6, va, el, be, ti, q.2) (nI s) := by
  obtain ⟨px, p0, py, pz⟩ := hv
  have his : vp_in (nI s) 40 := vp_in_nI hs (by decide)
  have cl : (nI s).toNatClampNeg = s := nI_clamp (by omega)
  have d1 : b1 (nI s).toNatClampNeg = nI k := by rw [cl]; exact e1
  have d2 : b2 (nI s).toNatClampNeg = nI x := by rw [cl]; exact e2
  have hxi : vp_in (b2 (nI s).toNatClampNeg) 6 := by rw [d2]; exact vp_in_nI px (by decide)
  have d3 : va (b2 (nI s).toNatClampNeg).toNatClampNeg = nI (t x).val := by
    rw [d2, nI_clamp (by omega)]; exact hV.1 x px
  refine And.intro his (nm_r d1 (And.intro his (And.intro hxi (nm_r d3 ?_))))
  by_cases k9 : k = 9
  · subst k9
    refine br_f (by decide) (br_t (by decide) ?_)
    have e : tc_pe 9 x y z (t, q) = (t, tc_pr q (t x)) := rfl
    rw [e] at H
    unfold tc_pr at H
    by_cases h40 : q.1 < 40
    · rw [if_pos h40] at H
      have e5 : upd q.2 (nI q.1).toNatClampNeg (nI (t x).val) = upd q.2 q.1 (nI (t x).val) := by rw [nI_clamp (by omega)]
      exact br_f (nI_ge (a := q.1) (b := 40) h40 (by decide)) (And.intro (vp_in_nI h40 (by decide)) (nm_r e5 (nm_r (nI_1 q.1) (H va el hV))))
    · rw [if_neg h40] at H
      exact br_t (nI_le (a := 40) (b := q.1) (by omega) (by omega)) (nm_r (nI_1 q.1) (H va el hV))
  have d4 : b3 (nI s).toNatClampNeg = nI y := by rw [cl]; exact e3 k9
  by_cases k0 : k = 0
  · subst k0
    have e5 : upd va (b2 (nI s).toNatClampNeg).toNatClampNeg (b3 (nI s).toNatClampNeg) = upd va x (nI y) := by
      rw [d2, d4, nI_clamp (by omega)]
    refine br_t (by decide) (And.intro his (And.intro his (And.intro hxi (nm_r e5 (H _ _ ?_)))))
    refine tc_YV_u hV px ?_
    show nI y = nI (y % 16)
    rw [Nat.mod_eq_of_lt (p0 rfl)]
  have hy := py k0 k9
  have hyi : vp_in (b3 (nI s).toNatClampNeg) 6 := by rw [d4]; exact vp_in_nI hy (by decide)
  have d5 : va (b3 (nI s).toNatClampNeg).toNatClampNeg = nI (t y).val := by
    rw [d4, nI_clamp (by omega)]; exact hV.1 y hy
  have c0 : ¬ nI k = 0 := fun w => k0 ((nI_eq (b := 0) (by omega) (by decide)).mp w)
  have c9 : ¬ nI k = 9 := fun w => k9 ((nI_eq (b := 9) (by omega) (by decide)).mp w)
  refine br_f c0 (br_f c9 ?_)
  by_cases k8 : k = 8
  · subst k8
    have hb := (t x).isLt
    have e6 : upd el (nI (t x).val).toNatClampNeg (nI (t y).val) = upd el (t x).val (nI (t y).val) := by rw [nI_clamp (by omega)]
    exact br_f (by decide) (br_f (by decide) (br_f (by decide) (br_f (by decide) (And.intro his (And.intro hyi (nm_r d5 (br_t rfl (br_t (by decide) (And.intro (vp_in_nI hb (by decide)) (nm_r e6 (H _ _ (tc_YV_e hV))))))))))))
  have c8 : ¬ nI k = 8 := fun w => k8 ((nI_eq (b := 8) (by omega) (by decide)).mp w)
  have ep : tc_pe k x y z (t, q) = (tc_fu t x (tc_rs k x y z t), q) := by
    unfold tc_pe
    rw [if_neg k9, if_neg k8]
  rw [ep] at H
  have fin : ∀ C : Int32, (k = 4 ∨ k = 5 ∨ k = 6 ∨ k = 13 → C = nI (t z).val) → wY_simple_143 post (nI s) (nI k) (nI (t x).val) (nI (t y).val) C g1 g2 (nI q.1) b1 b2 b3 b4 b5 b6 va el be ti q.2 := by
    intro C hC
    refine br_f c8 (And.intro his ?_)
    refine tc_yres hk k0 k8 k9 h10 h11 h12 hC hV ?_
    intro r hr
    have e7 : upd va (b2 (nI s).toNatClampNeg).toNatClampNeg (r &&& 15) = upd va x (nI (tc_rs k x y z t).val) := by
      rw [d2, hr, nI_clamp (by omega)]
    exact And.intro hxi (nm_r e7 (H _ _ (tc_YV_u hV px rfl)))
  have three : (k = 4 ∨ k = 5 ∨ k = 6 ∨ k = 13) → wY_simple_103 post (nI s) (nI k) (nI (t x).val) g1 g2 (nI q.1) b1 b2 b3 b4 b5 b6 va el be ti q.2 := by
    intro h3
    have d6 : b4 (nI s).toNatClampNeg = nI z := by rw [cl]; exact e4 h3
    have hz := pz h3
    have hzi : vp_in (b4 (nI s).toNatClampNeg) 6 := by rw [d6]; exact vp_in_nI hz (by decide)
    have d7 : va (b4 (nI s).toNatClampNeg).toNatClampNeg = nI (t z).val := by
      rw [d6, nI_clamp (by omega)]; exact hV.1 z hz
    exact And.intro his (And.intro hyi (nm_r d5 (br_f (by decide) (And.intro his (And.intro hzi (fin _ (fun _ => d7)))))))
  by_cases k4 : k = 4
  · exact br_t (by rw [k4]; rfl) (three (Or.inl k4))
  refine br_f (fun w => k4 ((nI_eq (b := 4) (by omega) (by decide)).mp w)) ?_
  by_cases k5 : k = 5
  · exact br_t (by rw [k5]; rfl) (three (Or.inr (Or.inl k5)))
  refine br_f (fun w => k5 ((nI_eq (b := 5) (by omega) (by decide)).mp w)) ?_
  by_cases k6 : k = 6
  · exact br_t (by rw [k6]; rfl) (three (Or.inr (Or.inr (Or.inl k6))))
  refine br_f (fun w => k6 ((nI_eq (b := 6) (by omega) (by decide)).mp w)) ?_
  by_cases k13 : k = 13
  · exact br_t (by rw [k13]; rfl) (three (Or.inr (Or.inr (Or.inr k13))))
  refine br_f (fun w => k13 ((nI_eq (b := 13) (by omega) (by decide)).mp w)) ?_
  exact And.intro his (And.intro hyi (nm_r d5 (br_t rfl (fin _ (fun w => absurd w (by omega))))))
end
end
section
/-! the reference: its list of statements that are begun -/
def tc_YK (post : Int32 → SY → Prop) (x2 : Nat) (u : SY) : Prop :=
  wY_run_28 post (10001 - x2) (nI x2) u.1 u.2.1 u.2.2.1 u.2.2.2.1 u.2.2.2.2.1 u.2.2.2.2.2.1 u.2.2.2.2.2.2.1 u.2.2.2.2.2.2.2.1 u.2.2.2.2.2.2.2.2.1 u.2.2.2.2.2.2.2.2.2.1 u.2.2.2.2.2.2.2.2.2.2.1 u.2.2.2.2.2.2.2.2.2.2.2.1 u.2.2.2.2.2.2.2.2.2.2.2.2.1 u.2.2.2.2.2.2.2.2.2.2.2.2.2
section
variable {kk xx yy zz ww nn : Nat → Nat} {sc : Nat} {post : Int32 → SY → Prop} {g1 : Int32} {b1 b2 b3 b4 b5 b6 : tc_A}
theorem tc_yput {K : SY → Prop} {g3 : Int32} {va el be ti ou : tc_A} {h s c : Nat} (hh : h < 40) (h0 : 0 < c) (hc : c < 100) (H : K (g1, nI (h + 1), g3, b1, b2, b3, b4, b5, b6, va, el, upd be h (nI s), upd ti h (nI c), ou)) : wpY_put K (g1, nI h, g3, b1, b2, b3, b4, b5, b6, va, el, be, ti, ou) (nI s) (nI c) := by
  have cl : (nI h).toNatClampNeg = h := nI_clamp (by omega)
  have e1 : upd be (nI h).toNatClampNeg (nI s) = upd be h (nI s) := by rw [cl]
  have e2 : upd ti (nI h).toNatClampNeg (nI c) = upd ti h (nI c) := by rw [cl]
  have hin : vp_in (nI h) 40 := vp_in_nI hh (by decide)
  exact br_f (nI_ne0 h0 (by omega)) (And.intro hin (nm_r e1 (And.intro hin (nm_r e2 (nm_r (nI_1 h) H)))))
def tc_YP (kk xx yy zz ww nn : Nat → Nat) (sc : Nat) (post : Int32 → SY → Prop) (g1 : Int32) (b1 b2 b3 b4 b5 b6 : tc_A) (f : Nat) : Prop :=
  ∀ (s c h x2 : Nat) (t : Nat → Fin 16) (q : tc_Q) (va el be ti : tc_A), s < f → s < sc → 1 ≤ c → c ≤ 15 → h + ww s ≤ 40 → x2 + c * (ww s * 15 ^ nn s) ≤ 9000 → q.1 + c * (ww s * 15 ^ nn s) ≤ 90000 → be h = nI s → ti h = nI c → tc_YV t va el →
    (∀ (x2' : Nat) (va' el' be' ti' : tc_A), x2' ≤ x2 + c * (ww s * 15 ^ nn s) → (∀ i, i < h → be' i = be i ∧ ti' i = ti i) → tc_YV (tc_it (tc_ev kk xx yy zz f s) c (t, q)).1 va' el' →
      tc_YK post x2' (g1, nI h, nI (tc_it (tc_ev kk xx yy zz f s) c (t, q)).2.1, b1, b2, b3, b4, b5, b6, va', el', be', ti', (tc_it (tc_ev kk xx yy zz f s) c (t, q)).2.2)) →
    tc_YK post x2 (g1, nI (h + 1), nI q.1, b1, b2, b3, b4, b5, b6, va, el, be, ti, q.2)
theorem tc_ycar (hv : tc_vd kk xx yy zz ww nn sc) (hX : tc_XR kk xx yy zz sc b1 b2 b3 b4) (hsc : sc ≤ 40) {f : Nat} (hP : tc_YP kk xx yy zz ww nn sc post g1 b1 b2 b3 b4 b5 b6 f)
    {s h x2 : Nat} {t : Nat → Fin 16} {q : tc_Q} {va el be ti : tc_A} (hf : s < f + 1) (hs : s < sc) (hh : h + ww s ≤ 41) (hx2 : x2 + ww s * 15 ^ nn s ≤ 9000) (hq : q.1 + ww s * 15 ^ nn s ≤ 90000) (hV : tc_YV t va el) {K : SY → Prop} (hK : ∀ u, tc_YK post (x2 + 1) u → K u)
    (H : ∀ (x2' : Nat) (va' el' be' ti' : tc_A), x2' ≤ x2 + ww s * 15 ^ nn s → (∀ i, i < h → be' i = be i ∧ ti' i = ti i) → tc_YV (tc_ev kk xx yy zz (f + 1) s (t, q)).1 va' el' →
      tc_YK post x2' (g1, nI h, nI (tc_ev kk xx yy zz (f + 1) s (t, q)).2.1, b1, b2, b3, b4, b5, b6, va', el', be', ti', (tc_ev kk xx yy zz (f + 1) s (t, q)).2.2)) :
    wpY_carryOut K (g1, nI h, nI q.1, b1, b2, b3, b4, b5, b6, va, el, be, ti, q.2) (nI s) := by
  obtain ⟨v0, v1, v2, v3, v4⟩ := hv s hs
  obtain ⟨x1, x2e, x3, x4⟩ := hX s hs
  have hp1 := tc_pow1 (nn s)
  have his : vp_in (nI s) 40 := vp_in_nI (by omega) (by decide)
  have cl : (nI s).toNatClampNeg = s := nI_clamp (by omega)
  have d1 : b1 (nI s).toNatClampNeg = nI (kk s) := by rw [cl]; exact x1
  have d2 : b2 (nI s).toNatClampNeg = nI (xx s) := by rw [cl]; exact x2e
  have dy : kk s ≠ 9 → b3 (nI s).toNatClampNeg = nI (yy s) := by rw [cl]; exact x3
  have dz : kk s = 11 → b4 (nI s).toNatClampNeg = nI (zz s) := by rw [cl]; exact fun w => x4 (by omega)
  have i2 := tc_cost v0.2.1 (Nat.le_refl (nn s))
  rw [Nat.one_mul] at i2
  simp only [tc_ev] at H
  refine And.intro his (nm_r d1 ?_)
  by_cases h10 : kk s = 10
  · simp only [if_pos h10] at H
    obtain ⟨a, b, c, e, g⟩ := v1 h10
    obtain ⟨w1, _⟩ := hv (xx s) (by omega)
    obtain ⟨w2, _⟩ := hv (yy s) (by omega)
    have cc := tc_cost2 (a := ww (xx s)) (b := ww (yy s)) e g
    rw [← c] at cc
    have hpc := tc_ev_pc hv f (xx s) (t, q) (by omega) (by omega)
    dsimp only at hpc
    refine br_t (by rw [h10]; rfl) (And.intro his ?_)
    rw [dy (by omega)]
    refine tc_yput (c := 1) (by omega) (by decide) (by decide) ?_
    refine And.intro his ?_
    have := tc_yput (K := K) (g1 := g1) (g3 := nI q.1) (b1 := b1) (b2 := b2) (b3 := b3) (b4 := b4) (b5 := b5) (b6 := b6) (va := va) (el := el) (be := upd be h (nI (yy s))) (ti := upd ti h (nI 1)) (ou := q.2) (h := h + 1) (s := xx s) (c := 1) (by omega) (by decide) (by decide) (hK _ ?_)
    · rw [← d2] at this
      exact this
    refine hP (xx s) 1 (h + 1) (x2 + 1) t q va el _ _ (by omega) (by omega) (by decide) (by decide) (by omega) (by omega) (by omega) pk_us pk_us hV ?_
    intro x2' va' el' be' ti' hle hag hV'
    obtain ⟨g1', g2'⟩ := hag h (by omega)
    rw [pk_un (by omega), pk_us] at g1' g2'
    refine hP (yy s) 1 h x2' _ _ va' el' be' ti' (by omega) (by omega) (by decide) (by decide) (by omega) (by omega) (by simp only [tc_it]; omega) g1' g2' hV' ?_
    intro x2'' va'' el'' be'' ti'' hle2 hag2 hV''
    refine H x2'' va'' el'' be'' ti'' (by omega) ?_ hV''
    intro i hi
    obtain ⟨j1, j2⟩ := hag i (by omega)
    obtain ⟨j3, j4⟩ := hag2 i (by omega)
    rw [pk_un (by omega), pk_un (by omega)] at j1 j2
    exact ⟨j3.trans j1, j4.trans j2⟩
  simp only [if_neg h10] at H
  refine br_f (fun w => h10 ((nI_eq (b := 10) (by omega) (by decide)).mp w)) ?_
  by_cases h11 : kk s = 11
  · simp only [if_pos h11] at H
    obtain ⟨a, b, c, e, g, g'⟩ := v2 h11
    obtain ⟨w1, _⟩ := hv (yy s) (by omega)
    obtain ⟨w2, _⟩ := hv (zz s) (by omega)
    have cc := tc_cost2 (a := ww (yy s)) (b := ww (zz s)) (n := nn (yy s)) (m := nn (zz s)) (k := nn s) (by omega) (by omega)
    rw [← e] at cc
    have hxi : vp_in (b2 (nI s).toNatClampNeg) 6 := by rw [d2]; exact vp_in_nI a (by decide)
    have d3 : va (b2 (nI s).toNatClampNeg).toNatClampNeg = nI (t (xx s)).val := by
      rw [d2, nI_clamp (by omega)]; exact hV.1 _ a
    refine br_t (by rw [h11]; rfl) (And.intro his (And.intro hxi ?_))
    rw [d3]
    by_cases h0 : t (xx s) = 0
    · simp only [if_pos h0] at H
      refine br_t (by rw [h0]; decide) (And.intro his ?_)
      rw [dz h11]
      refine tc_yput (c := 1) (by omega) (by decide) (by decide) (hK _ ?_)
      refine hP (zz s) 1 h (x2 + 1) t q va el _ _ (by omega) (by omega) (by decide) (by decide) (by omega) (by omega) (by omega) pk_us pk_us hV ?_
      intro x2' va' el' be' ti' hle hag hV'
      refine H x2' va' el' be' ti' (by omega) ?_ hV'
      intro i hi
      obtain ⟨j1, j2⟩ := hag i hi
      rw [pk_un (by omega)] at j1 j2
      exact ⟨j1, j2⟩
    · simp only [if_neg h0] at H
      refine br_f (tc_nI_f _ h0) (And.intro his ?_)
      rw [dy (by omega)]
      refine tc_yput (c := 1) (by omega) (by decide) (by decide) (hK _ ?_)
      refine hP (yy s) 1 h (x2 + 1) t q va el _ _ (by omega) (by omega) (by decide) (by decide) (by omega) (by omega) (by omega) pk_us pk_us hV ?_
      intro x2' va' el' be' ti' hle hag hV'
      refine H x2' va' el' be' ti' (by omega) ?_ hV'
      intro i hi
      obtain ⟨j1, j2⟩ := hag i hi
      rw [pk_un (by omega)] at j1 j2
      exact ⟨j1, j2⟩
  simp only [if_neg h11] at H
  refine br_f (fun w => h11 ((nI_eq (b := 11) (by omega) (by decide)).mp w)) ?_
  by_cases h12 : kk s = 12
  · simp only [if_pos h12] at H
    obtain ⟨a, b, c, e⟩ := v3 h12
    obtain ⟨w1, _⟩ := hv (yy s) (by omega)
    have cc := tc_cost3 (a := ww (yy s)) e
    rw [← c] at cc
    have hxi : vp_in (b2 (nI s).toNatClampNeg) 6 := by rw [d2]; exact vp_in_nI a (by decide)
    have d3 : va (b2 (nI s).toNatClampNeg).toNatClampNeg = nI (t (xx s)).val := by
      rw [d2, nI_clamp (by omega)]; exact hV.1 _ a
    refine br_t (by rw [h12]; rfl) (And.intro his (And.intro his (And.intro hxi ?_)))
    rw [d3, dy (by omega)]
    by_cases h0 : (t (xx s)).val = 0
    · rw [h0] at H ⊢
      exact br_t (by decide) (hK _ (H (x2 + 1) va el be ti (by omega) (fun i hi => ⟨rfl, rfl⟩) hV))
    · have hb := (t (xx s)).isLt
      have cm : (t (xx s)).val * (ww (yy s) * 15 ^ nn (yy s)) ≤ 15 * (ww (yy s) * 15 ^ nn (yy s)) := Nat.mul_le_mul_right _ (by omega)
      refine tc_yput (by omega) (by omega) (by omega) (hK _ ?_)
      refine hP (yy s) (t (xx s)).val h (x2 + 1) t q va el _ _ (by omega) (by omega) (by omega) (by omega) (by omega) (by omega) (by omega) pk_us pk_us hV ?_
      intro x2' va' el' be' ti' hle hag hV'
      refine H x2' va' el' be' ti' (by omega) ?_ hV'
      intro i hi
      obtain ⟨j1, j2⟩ := hag i hi
      rw [pk_un (by omega)] at j1 j2
      exact ⟨j1, j2⟩
  simp only [if_neg h12] at H
  refine br_f (fun w => h12 ((nI_eq (b := 12) (by omega) (by decide)).mp w)) ?_
  refine tc_ysimple (by omega) x1 x2e x3 (fun w => x4 (by omega)) v0.1 h10 h11 h12 (v4 h10 h11 h12) hV (by omega) ?_
  intro va' el' hV'
  exact hK _ (H (x2 + 1) va' el' be ti (by omega) (fun i hi => ⟨rfl, rfl⟩) hV')

theorem tc_yrun (hv : tc_vd kk xx yy zz ww nn sc) (hX : tc_XR kk xx yy zz sc b1 b2 b3 b4) (hsc : sc ≤ 40) : ∀ f, tc_YP kk xx yy zz ww nn sc post g1 b1 b2 b3 b4 b5 b6 f := by
  intro f
  induction f with
  | zero => intro s c h x2 t q va el be ti hf; omega
  | succ f ih =>
    intro s c
    induction c with
    | zero => intro h x2 t q va el be ti hf hs hc; omega
    | succ c ihc =>
      intro h x2 t q va el be ti hf hs hc1 hc hh hx2 hq hbe hti hV H
      rw [Nat.succ_mul] at hx2 hq H
      obtain ⟨v0, _⟩ := hv s hs
      have hp1 := tc_pow1 (nn s)
      have i2 := tc_cost v0.2.1 (Nat.le_refl (nn s))
      rw [Nat.one_mul] at i2
      obtain ⟨n, hn⟩ : ∃ n, 10001 - x2 = n + 1 := ⟨10000 - x2, by omega⟩
      have hn' : 10001 - (x2 + 1) = n := by omega
      have hin : vp_in (nI (h + 1) - 1) 40 := by rw [nI_pred]; exact vp_in_nI (by omega) (by decide)
      have cl : (nI (h + 1) - 1).toNatClampNeg = h := by rw [nI_pred, nI_clamp (by omega)]
      have e1 : be (nI (h + 1) - 1).toNatClampNeg = nI s := by rw [cl]; exact hbe
      have e2 : upd ti (nI (h + 1) - 1).toNatClampNeg (ti (nI (h + 1) - 1).toNatClampNeg - 1) = upd ti h (nI c) := by
        rw [cl, hti, nI_pred]
      have e3 : upd ti h (nI c) (nI (h + 1) - 1).toNatClampNeg = nI c := by rw [cl, pk_us]
      have hpc := tc_ev_pc hv (f + 1) s (t, q) hf hs
      dsimp only at hpc
      unfold tc_YK
      rw [hn]
      refine br_f (nI_ge (a := x2) (b := 10000) (by omega) (by decide)) (br_f (nI_nle (by omega) (by omega)) (And.intro hin (nm_r e1 (And.intro hin (And.intro hin (nm_r e2 (And.intro hin ?_)))))))
      rw [e3]
      by_cases hc0 : c = 0
      · subst hc0
        refine br_t (by decide) (nm_r (nI_pred h) ?_)
        unfold wY_run_93
        refine tc_ycar (x2 := x2) hv hX hsc ih hf hs (by omega) (by omega) (by omega) hV (fun u hu => ?_) ?_
        · unfold tc_YK at hu
          rw [hn'] at hu
          exact nm_r (nI_1 x2) hu
        · intro x2' va' el' be' ti' hle hag hV'
          refine H x2' va' el' be' ti' (by omega) ?_ hV'
          intro i hi
          obtain ⟨j1, j2⟩ := hag i hi
          rw [pk_un (by omega)] at j2
          exact ⟨j1, j2⟩
      · refine br_f (nI_ne0 (by omega) (by omega)) ?_
        unfold wY_run_93
        refine tc_ycar (x2 := x2) (h := h + 1) hv hX hsc ih hf hs (by omega) (by omega) (by omega) hV (fun u hu => ?_) ?_
        · unfold tc_YK at hu
          rw [hn'] at hu
          exact nm_r (nI_1 x2) hu
        · intro x2' va' el' be' ti' hle hag hV'
          obtain ⟨g1', g2'⟩ := hag h (by omega)
          rw [pk_us] at g2'
          refine ihc h x2' _ _ va' el' be' ti' hf hs (by omega) (by omega) hh (by omega) (by omega) (g1'.trans hbe) g2' hV' ?_
          intro x2'' va'' el'' be'' ti'' hle2 hag2 hV''
          refine H x2'' va'' el'' be'' ti'' (by omega) ?_ hV''
          intro i hi
          obtain ⟨j1, j2⟩ := hag i (by omega)
          obtain ⟨j3, j4⟩ := hag2 i (by omega)
          rw [pk_un (by omega)] at j2
          exact ⟨j3.trans j1, j4.trans j2⟩
end
end
section
/-! the relation, and the smaller calls -/
section
variable {kk xx yy zz ww nn : Nat → Nat} {sc : Nat} {g2 g3 : Int32} {b1 b2 b3 b4 b5 b6 va el be ti pl : tc_A} {t : Nat → Fin 16}
theorem tc_runY {post : Int32 → SY → Prop} (hv : tc_vd kk xx yy zz ww nn sc) (hX : tc_XR kk xx yy zz sc b1 b2 b3 b4) (hsc : sc ≤ 40) {f s : Nat} (hf : s < f) (hs : s < sc) (hV : tc_YV t va el)
    (H : ∀ (g : Int32) (va' el' be' ti' : tc_A), tc_YV (tc_ev kk xx yy zz f s (t, (0, pl))).1 va' el' → post (nI (tc_ev kk xx yy zz f s (t, (0, pl))).2.1) (nI sc, g, nI (tc_ev kk xx yy zz f s (t, (0, pl))).2.1, b1, b2, b3, b4, b5, b6, va', el', be', ti', (tc_ev kk xx yy zz f s (t, (0, pl))).2.2)) :
    wpY_run post (nI sc, g2, g3, b1, b2, b3, b4, b5, b6, va, el, be, ti, pl) (nI s) := by
  obtain ⟨⟨v1, v2, v3, v4⟩, _⟩ := hv s hs
  have hsm := tc_small hv hs
  have e : ¬ nI sc - 1 < nI s := by
    obtain ⟨m, rfl⟩ : ∃ m, sc = m + 1 := ⟨sc - 1, by omega⟩
    rw [nI_pred]; exact nI_nlt (by omega) (by omega)
  refine br_f (nI_pos (by omega)) (br_f e (And.intro rfl (br_f (by decide) ?_)))
  refine tc_yput (h := 0) (c := 1) (by decide) (by decide) (by decide) ?_
  refine ⟨10001, ?_⟩
  refine tc_yrun (post := post) (g1 := nI sc) (b5 := b5) (b6 := b6) hv hX hsc f s 1 0 0 t (0, pl) va el (upd be 0 (nI s)) (upd ti 0 (nI 1)) hf hs (by decide) (by decide) (by omega) (by omega) (by dsimp only; omega) pk_us pk_us hV ?_
  intro x2' va' el' be' ti' hle _ hV'
  unfold tc_YK
  obtain ⟨n, hn⟩ : ∃ n, 10001 - x2' = n + 1 := ⟨10000 - x2', by omega⟩
  rw [hn]
  exact br_f (nI_ge (a := x2') (b := 10000) (by omega) (by decide)) (br_t (show nI 0 ≤ 0 by decide) (H (nI 0) va' el' be' ti' hV'))
end

def tc_WN (ww nn : Nat → Nat) (sc : Nat) (a5 a6 : tc_A) : Prop := ∀ s, s < sc → a5 s = nI (ww s) ∧ a6 s = nI (nn s)
def tc_Rl (kk xx yy zz ww nn : Nat → Nat) (sc : Nat) (t : Nat → Fin 16) (q : tc_Q) (u : SX) (v : SY) : Prop := match u with
  | (f1, _, _, _, _, _, f7, f8, a1, a2, a3, a4, a5, a6, _, _, _, _, _, tp, pl) => match v with
    | (g1, _, g3, b1, b2, b3, b4, b5, b6, va, el, _, _, ou) =>
      f1 = nI sc ∧ f8 = nI q.1 ∧ tp = tc_tp t ∧ pl = q.2 ∧ g1 = nI sc ∧ g3 = nI q.1 ∧ ou = q.2 ∧ sc ≤ 40 ∧ q.1 ≤ 100000 ∧ (f7 = 0 ∨ f7 = 1) ∧
      tc_vd kk xx yy zz ww nn sc ∧ tc_XR kk xx yy zz sc a1 a2 a3 a4 ∧ tc_XR kk xx yy zz sc b1 b2 b3 b4 ∧ tc_WN ww nn sc a5 a6 ∧ tc_WN ww nn sc b5 b6 ∧ tc_Zn 0 t ∧ tc_YV t va el
/-- the relation at the head of a turn -/
def i_Rel (_ : Nat) (u : SX) (v : SY) : Prop := ∃ (kk xx yy zz ww nn : Nat → Nat) (sc : Nat) (t : Nat → Fin 16) (q : tc_Q), tc_Rl kk xx yy zz ww nn sc t q u v
theorem i_up {k : Nat} {u : SX} {v : SY} (h : i_Rel k u v) : i_Rel (k + 5) u v := h
theorem i_vc0 : wpX_init (fun u => wpY_init (fun v => i_Rel 0 u v)) := by
  refine ⟨fun _ => 0, fun _ => 0, fun _ => 0, fun _ => 0, fun _ => 0, fun _ => 0, 0, fun _ => 0, (0, fun _ => 0), ?_⟩
  refine ⟨rfl, rfl, ?_, rfl, rfl, rfl, rfl, by decide, by decide, Or.inr rfl, fun s hs => absurd hs (by omega), fun s hs => absurd hs (by omega), fun s hs => absurd hs (by omega), fun s hs => absurd hs (by omega), fun s hs => absurd hs (by omega), ?_, ?_⟩
  · funext j
    show (0 : Int32) = nI (0 : Fin 16).val
    decide
  · exact ⟨fun _ _ _ => rfl, fun _ _ => ⟨rfl, rfl, rfl⟩⟩
  · refine ⟨fun j _ => ?_, fun i _ => ?_⟩
    · show (0 : Int32) = nI (0 : Fin 16).val
      decide
    · show (0 : Int32) = nI (0 : Fin 16).val
      decide
theorem tc_el {P : SX → SY → Prop} {k : Nat} {u : SX} {v : SY} (I : i_Rel k u v)
    (h : ∀ (kk xx yy zz ww nn : Nat → Nat) (sc : Nat) (t : Nat → Fin 16) (q : tc_Q) (f2 f3 f4 f5 f6 f7 g2 : Int32) (a1 a2 a3 a4 a5 a6 o nu lo nA pA b1 b2 b3 b4 b5 b6 va el be ti : tc_A),
      sc ≤ 40 → q.1 ≤ 100000 → (f7 = 0 ∨ f7 = 1) → tc_vd kk xx yy zz ww nn sc → tc_XR kk xx yy zz sc a1 a2 a3 a4 → tc_XR kk xx yy zz sc b1 b2 b3 b4 → tc_WN ww nn sc a5 a6 → tc_WN ww nn sc b5 b6 → tc_Zn 0 t → tc_YV t va el →
      P (nI sc, f2, f3, f4, f5, f6, f7, nI q.1, a1, a2, a3, a4, a5, a6, o, nu, lo, nA, pA, tc_tp t, q.2) (nI sc, g2, nI q.1, b1, b2, b3, b4, b5, b6, va, el, be, ti, q.2)) : P u v := by
  obtain ⟨kk, xx, yy, zz, ww, nn, sc, t, q, hR⟩ := I
  obtain ⟨f1, f2, f3, f4, f5, f6, f7, f8, a1, a2, a3, a4, a5, a6, o, nu, lo, nA, pA, tp, pl⟩ := u
  obtain ⟨g1, g2, g3, b1, b2, b3, b4, b5, b6, va, el, be, ti, ou⟩ := v
  obtain ⟨rfl, rfl, rfl, rfl, rfl, rfl, rfl, r1, r2, r3, r4, r5, r6, r7, r8, r9, r10⟩ := hR
  exact h kk xx yy zz ww nn sc t q f2 f3 f4 f5 f6 f7 g2 a1 a2 a3 a4 a5 a6 o nu lo nA pA b1 b2 b3 b4 b5 b6 va el be ti r1 r2 r3 r4 r5 r6 r7 r8 r9 r10
theorem i_vc_drop {k : Nat} {u : SX} {v : SY} (I : i_Rel k u v) (hk : k + 5 ≤ 2560) : wpX_drop (fun r u' => wpY_drop (fun r' v' => r' = r ∧ i_Rel (k + 5) u' v') v) u := by
  refine tc_el (P := fun u v => wpX_drop (fun r u' => wpY_drop (fun r' v' => r' = r ∧ i_Rel (k + 5) u' v') v) u) I ?_
  intro kk xx yy zz ww nn sc t q f2 f3 f4 f5 f6 f7 g2 a1 a2 a3 a4 a5 a6 o nu lo nA pA b1 b2 b3 b4 b5 b6 va el be ti r1 r2 r3 r4 r5 r6 r7 r8 r9 r10
  exact ⟨rfl, kk, xx, yy, zz, ww, nn, 0, t, q, rfl, rfl, rfl, rfl, rfl, rfl, rfl, by decide, r2, r3, fun s hs => absurd hs (by omega), fun s hs => absurd hs (by omega), fun s hs => absurd hs (by omega), fun s hs => absurd hs (by omega), fun s hs => absurd hs (by omega), r9, r10⟩
/-- a number that is neither below 0 nor beyond n -/
theorem tc_cases (x : Int32) (n : Nat) (hn : n < 2 ^ 30) : x < 0 ∨ (¬ x < 0 ∧ nI n < x) ∨ (∃ j : Nat, j ≤ n ∧ x = nI j) := by
  by_cases h : x < 0
  · exact Or.inl h
  · obtain ⟨j, hj, rfl⟩ := nI_of h
    by_cases h2 : j ≤ n
    · exact Or.inr (Or.inr ⟨j, h2, rfl⟩)
    · exact Or.inr (Or.inl ⟨h, nI_lt (by omega) hj⟩)
theorem i_vc_weight {k : Nat} {u : SX} {v : SY} (I : i_Rel k u v) (hk : k + 5 ≤ 2560) (v1 : Int32) : wpX_weight (fun r => wpY_weight (fun r' => r' = r ∧ i_Rel (k + 5) u v) v v1) u v1 := by
  have I' := I
  revert I'
  refine tc_el (P := fun u v => i_Rel k u v → wpX_weight (fun r => wpY_weight (fun r' => r' = r ∧ i_Rel (k + 5) u v) v v1) u v1) I ?_
  intro kk xx yy zz ww nn sc t q f2 f3 f4 f5 f6 f7 g2 a1 a2 a3 a4 a5 a6 o nu lo nA pA b1 b2 b3 b4 b5 b6 va el be ti r1 r2 r3 r4 r5 r6 r7 r8 r9 r10 I'
  rcases pk_ix v1 (n := sc) (by omega) with h | h | ⟨j, hj, rfl⟩
  · exact br_t h (br_t rfl (br_t h (And.intro rfl (br_t rfl ⟨rfl, I'⟩))))
  · have h0 : ¬ v1 < 0 := fun w => Int32.lt_irrefl (Int32.lt_of_le_of_lt (Int32.le_trans (nI_pos' (n := sc) (by omega)) h) w)
    have h1 : nI sc - 1 < v1 := by
      rw [Int32.lt_iff_toInt_lt]
      rw [Int32.le_iff_toInt_le, nI_toInt (by omega)] at h
      have := pk_sub_toInt (a := sc) (b := 1) (by omega) (by decide)
      rw [show nI sc - 1 = nI sc - nI 1 from rfl, this]
      omega
    exact br_f h0 (br_t h (br_t rfl (br_f h0 (br_t h1 (And.intro rfl (br_t rfl ⟨rfl, I'⟩))))))
  · have e : ¬ nI sc - 1 < nI j := by
      obtain ⟨m, rfl⟩ : ∃ m, sc = m + 1 := ⟨sc - 1, by omega⟩
      rw [nI_pred]; exact nI_nlt (by omega) (by omega)
    have hin : vp_in (nI j) 40 := vp_in_nI (by omega) (by decide)
    have cl : (nI j).toNatClampNeg = j := nI_clamp (by omega)
    refine br_f (nI_pos (by omega)) (br_f (nI_ge hj (by omega)) (br_f (by decide) (And.intro hin (br_f (nI_pos (by omega)) (br_f e (And.intro rfl (br_f (by decide) (And.intro hin ⟨?_, I'⟩))))))))
    rw [cl, (r7 j hj).1, (r8 j hj).1]
theorem i_vc_run {k : Nat} {u : SX} {v : SY} (I : i_Rel k u v) (hk : k + 5 ≤ 2560) (v1 : Int32) : wpX_run (fun r u' => wpY_run (fun r' v' => r' = r ∧ i_Rel (k + 5) u' v') v v1) u v1 := by
  have I' := I
  revert I'
  refine tc_el (P := fun u v => i_Rel k u v → wpX_run (fun r u' => wpY_run (fun r' v' => r' = r ∧ i_Rel (k + 5) u' v') v v1) u v1) I ?_
  intro kk xx yy zz ww nn sc t q f2 f3 f4 f5 f6 f7 g2 a1 a2 a3 a4 a5 a6 o nu lo nA pA b1 b2 b3 b4 b5 b6 va el be ti r1 r2 r3 r4 r5 r6 r7 r8 r9 r10 I'
  rcases pk_ix v1 (n := sc) (by omega) with h | h | ⟨j, hj, rfl⟩
  · exact br_t h (br_t rfl (br_t h (And.intro rfl (br_t rfl ⟨rfl, I'⟩))))
  · have h0 : ¬ v1 < 0 := fun w => Int32.lt_irrefl (Int32.lt_of_le_of_lt (Int32.le_trans (nI_pos' (n := sc) (by omega)) h) w)
    have h1 : nI sc - 1 < v1 := by
      rw [Int32.lt_iff_toInt_lt]
      rw [Int32.le_iff_toInt_le, nI_toInt (by omega)] at h
      have := pk_sub_toInt (a := sc) (b := 1) (by omega) (by decide)
      rw [show nI sc - 1 = nI sc - nI 1 from rfl, this]
      omega
    exact br_f h0 (br_t h (br_t rfl (br_f h0 (br_t h1 (And.intro rfl (br_t rfl ⟨rfl, I'⟩))))))
  · refine tc_runX r4 r5 r1 (f := sc) hj hj r9 ?_
    intro c2 c3 c4 c5 c6 o' nu' lo' nA' pA'
    refine tc_runY r4 r6 r1 (f := sc) hj hj r10 ?_
    intro g va' el' be' ti' hV'
    have hpc := tc_ev_pc r4 sc j (t, (0, q.2)) hj hj
    have hsm := tc_small r4 hj
    dsimp only at hpc
    exact ⟨rfl, kk, xx, yy, zz, ww, nn, sc, (tc_ev kk xx yy zz sc j (t, (0, q.2))).1, (tc_ev kk xx yy zz sc j (t, (0, q.2))).2, rfl, rfl, rfl, rfl, rfl, rfl, rfl, r1, by omega, r3, r4, r5, r6, r7, r8, tc_Zn_ev (m := (t, (0, q.2))) r4 hj hj r9, hV'⟩
end
section
/-! the calls that look and set -/
theorem i_vc_variable {k : Nat} {u : SX} {v : SY} (I : i_Rel k u v) (hk : k + 5 ≤ 2560) (v1 : Int32) : wpX_variable (fun r => wpY_variable (fun r' => r' = r ∧ i_Rel (k + 5) u v) v v1) u v1 := by
  have I' := I
  revert I'
  refine tc_el (P := fun u v => i_Rel k u v → wpX_variable (fun r => wpY_variable (fun r' => r' = r ∧ i_Rel (k + 5) u v) v v1) u v1) I ?_
  intro kk xx yy zz ww nn sc t q f2 f3 f4 f5 f6 f7 g2 a1 a2 a3 a4 a5 a6 o nu lo nA pA b1 b2 b3 b4 b5 b6 va el be ti r1 r2 r3 r4 r5 r6 r7 r8 r9 r10 I'
  rcases tc_cases v1 5 (by decide) with h | ⟨h0, h⟩ | ⟨j, hj, rfl⟩
  · exact br_t h (br_t rfl (br_t h (And.intro rfl (br_t rfl ⟨rfl, I'⟩))))
  · exact br_f h0 (br_t h (br_t rfl (br_f h0 (br_t h (And.intro rfl (br_t rfl ⟨rfl, I'⟩))))))
  · have h0 : ¬ nI j < 0 := nI_pos (by omega)
    have h5 : ¬ nI 5 < nI j := nI_nlt hj (by decide)
    have cl : (nI j).toNatClampNeg = j := nI_clamp (by omega)
    refine br_f h0 (br_f h5 (br_f (by decide) (And.intro (vp_in_nI (by omega) (by decide)) (br_f h0 (br_f h5 (And.intro rfl (br_f (by decide) (And.intro (vp_in_nI (by omega) (by decide)) ⟨?_, I'⟩))))))))
    rw [cl]
    exact r10.1 j (by omega)
theorem tc_w8 {j : Nat} (h : j ≤ 15) : vp_nar .byte (nI j).toInt8.toInt32 = nI (Fin.ofNat 16 j).val := by
  rw [vp_nar_byte, tc_i8 (by omega), tc_i8 (by omega)]
  show nI j = nI (j % 16)
  rw [Nat.mod_eq_of_lt (by omega)]
theorem tc_w9 {j : Nat} (h : j ≤ 15) : nI j = nI (Fin.ofNat 16 j).val := by
  show nI j = nI (j % 16)
  rw [Nat.mod_eq_of_lt (by omega)]
theorem i_vc_setVariable {k : Nat} {u : SX} {v : SY} (I : i_Rel k u v) (hk : k + 5 ≤ 2560) (v1 : Int32) (v2 : Int32) : wpX_setVariable (fun r u' => wpY_setVariable (fun r' v' => r' = r ∧ i_Rel (k + 5) u' v') v v1 v2) u v1 v2 := by
  have I' := I
  revert I'
  refine tc_el (P := fun u v => i_Rel k u v → wpX_setVariable (fun r u' => wpY_setVariable (fun r' v' => r' = r ∧ i_Rel (k + 5) u' v') v v1 v2) u v1 v2) I ?_
  intro kk xx yy zz ww nn sc t q f2 f3 f4 f5 f6 f7 g2 a1 a2 a3 a4 a5 a6 o nu lo nA pA b1 b2 b3 b4 b5 b6 va el be ti r1 r2 r3 r4 r5 r6 r7 r8 r9 r10 I'
  rcases tc_cases v1 5 (by decide) with h | ⟨h0, h⟩ | ⟨j, hj, rfl⟩
  · exact br_t h (br_t rfl (br_t h (And.intro rfl (br_t rfl ⟨rfl, I'⟩))))
  · exact br_f h0 (br_t h (br_t rfl (br_f h0 (br_t h (And.intro rfl (br_t rfl ⟨rfl, I'⟩))))))
  · have h0 : ¬ nI j < 0 := nI_pos (by omega)
    have h5 : ¬ nI 5 < nI j := nI_nlt hj (by decide)
    have cl : (nI j).toNatClampNeg = j := nI_clamp (by omega)
    refine br_f h0 (br_f h5 (br_f (by decide) ?_))
    rcases tc_cases v2 15 (by decide) with g | ⟨g0, g⟩ | ⟨w, hw, rfl⟩
    · exact br_t g (br_t rfl (br_f h0 (br_f h5 (And.intro rfl (br_f (by decide) (br_t g (br_t rfl ⟨rfl, I'⟩)))))))
    · exact br_f g0 (br_t g (br_t rfl (br_f h0 (br_f h5 (And.intro rfl (br_f (by decide) (br_f g0 (br_t g (br_t rfl ⟨rfl, I'⟩)))))))))
    · have g0 : ¬ nI w < 0 := nI_pos (by omega)
      have g5 : ¬ nI 15 < nI w := nI_nlt hw (by decide)
      have e1 : upd (tc_tp t) (nI j).toNatClampNeg (vp_nar .byte (nI w).toInt8.toInt32) = tc_tp (tc_fu t j (Fin.ofNat 16 w)) := by
        rw [cl, tc_w8 hw, tc_tp_u]
      have e2 : upd va (nI j).toNatClampNeg (nI w) = upd va j (nI w) := by rw [cl]
      exact br_f g0 (br_f g5 (br_f (by decide) (And.intro (vp_in_nI (by omega) (by decide)) (nm_r e1 (br_f h0 (br_f h5 (And.intro rfl (br_f (by decide) (br_f g0 (br_f g5 (br_f (by decide) (And.intro (vp_in_nI (by omega) (by decide)) (nm_r e2 ⟨rfl, kk, xx, yy, zz, ww, nn, sc, tc_fu t j (Fin.ofNat 16 w), q, rfl, rfl, rfl, rfl, rfl, rfl, rfl, r1, r2, r3, r4, r5, r6, r7, r8, tc_Zn_fu (by omega) (by omega) r9, tc_YV_u r10 (by omega) (tc_w9 hw)⟩)))))))))))))
theorem tc_ea (i : Nat) : (24 + 4 * nI i) + 3 = nI (27 + 4 * i) := by
  rw [show (4 : Int32) * nI i = nI (4 * i) from pk_mul 4 i, show (24 : Int32) + nI (4 * i) = nI (24 + 4 * i) from nI_add 24 _, show nI (24 + 4 * i) + 3 = nI (24 + 4 * i + 3) from nI_add _ 3]
  exact congrArg nI (by omega)
theorem i_vc_element {k : Nat} {u : SX} {v : SY} (I : i_Rel k u v) (hk : k + 5 ≤ 2560) (v1 : Int32) : wpX_element (fun r => wpY_element (fun r' => r' = r ∧ i_Rel (k + 5) u v) v v1) u v1 := by
  have I' := I
  revert I'
  refine tc_el (P := fun u v => i_Rel k u v → wpX_element (fun r => wpY_element (fun r' => r' = r ∧ i_Rel (k + 5) u v) v v1) u v1) I ?_
  intro kk xx yy zz ww nn sc t q f2 f3 f4 f5 f6 f7 g2 a1 a2 a3 a4 a5 a6 o nu lo nA pA b1 b2 b3 b4 b5 b6 va el be ti r1 r2 r3 r4 r5 r6 r7 r8 r9 r10 I'
  rcases tc_cases v1 15 (by decide) with h | ⟨h0, h⟩ | ⟨j, hj, rfl⟩
  · exact br_t h (br_t rfl (br_t h (br_t rfl ⟨rfl, I'⟩)))
  · exact br_f h0 (br_t h (br_t rfl (br_f h0 (br_t h (br_t rfl ⟨rfl, I'⟩)))))
  · have h0 : ¬ nI j < 0 := nI_pos (by omega)
    have h5 : ¬ nI 15 < nI j := nI_nlt hj (by decide)
    have cl : (nI j).toNatClampNeg = j := nI_clamp (by omega)
    have hin : vp_in ((24 + 4 * nI j) + 3) 96 := by rw [tc_ea]; exact vp_in_nI (by omega) (by decide)
    refine br_f h0 (br_f h5 (br_f (by decide) (And.intro hin (br_f h0 (br_f h5 (br_f (by decide) (And.intro (vp_in_nI (by omega) (by decide)) ⟨?_, I'⟩)))))))
    rw [cl, tc_ea, nI_clamp (by omega)]
    exact r10.2 j (by omega)
theorem i_vc_setElement {k : Nat} {u : SX} {v : SY} (I : i_Rel k u v) (hk : k + 5 ≤ 2560) (v1 : Int32) (v2 : Int32) : wpX_setElement (fun r u' => wpY_setElement (fun r' v' => r' = r ∧ i_Rel (k + 5) u' v') v v1 v2) u v1 v2 := by
  have I' := I
  revert I'
  refine tc_el (P := fun u v => i_Rel k u v → wpX_setElement (fun r u' => wpY_setElement (fun r' v' => r' = r ∧ i_Rel (k + 5) u' v') v v1 v2) u v1 v2) I ?_
  intro kk xx yy zz ww nn sc t q f2 f3 f4 f5 f6 f7 g2 a1 a2 a3 a4 a5 a6 o nu lo nA pA b1 b2 b3 b4 b5 b6 va el be ti r1 r2 r3 r4 r5 r6 r7 r8 r9 r10 I'
  rcases tc_cases v1 15 (by decide) with h | ⟨h0, h⟩ | ⟨j, hj, rfl⟩
  · exact br_t h (br_t rfl (br_t h (br_t rfl ⟨rfl, I'⟩)))
  · exact br_f h0 (br_t h (br_t rfl (br_f h0 (br_t h (br_t rfl ⟨rfl, I'⟩)))))
  · have h0 : ¬ nI j < 0 := nI_pos (by omega)
    have h5 : ¬ nI 15 < nI j := nI_nlt hj (by decide)
    have cl : (nI j).toNatClampNeg = j := nI_clamp (by omega)
    have hin : vp_in ((24 + 4 * nI j) + 3) 96 := by rw [tc_ea]; exact vp_in_nI (by omega) (by decide)
    refine br_f h0 (br_f h5 (br_f (by decide) ?_))
    rcases tc_cases v2 15 (by decide) with g | ⟨g0, g⟩ | ⟨w, hw, rfl⟩
    · exact br_t g (br_t rfl (br_f h0 (br_f h5 (br_f (by decide) (br_t g (br_t rfl ⟨rfl, I'⟩))))))
    · exact br_f g0 (br_t g (br_t rfl (br_f h0 (br_f h5 (br_f (by decide) (br_f g0 (br_t g (br_t rfl ⟨rfl, I'⟩))))))))
    · have g0 : ¬ nI w < 0 := nI_pos (by omega)
      have g5 : ¬ nI 15 < nI w := nI_nlt hw (by decide)
      have e1 : upd (tc_tp t) ((24 + 4 * nI j) + 3).toNatClampNeg (vp_nar .byte (nI w).toInt8.toInt32) = tc_tp (tc_fu t (27 + 4 * j) (Fin.ofNat 16 w)) := by
        rw [tc_ea, nI_clamp (by omega), tc_w8 hw, tc_tp_u]
      have e2 : upd el (nI j).toNatClampNeg (nI w) = upd el j (nI (Fin.ofNat 16 w).val) := by rw [cl, ← tc_w9 hw]
      have hZ : tc_Zn 0 (tc_fu t (27 + 4 * j) (Fin.ofNat 16 w)) := ⟨fun i hi hi' => by rw [tc_fu_n (by omega)]; exact r9.1 i hi hi', tc_Za_fu r9.2⟩
      exact br_f g0 (br_f g5 (br_f (by decide) (And.intro hin (nm_r e1 (br_f h0 (br_f h5 (br_f (by decide) (br_f g0 (br_f g5 (br_f (by decide) (And.intro (vp_in_nI (by omega) (by decide)) (nm_r e2 ⟨rfl, kk, xx, yy, zz, ww, nn, sc, tc_fu t (27 + 4 * j) (Fin.ofNat 16 w), q, rfl, rfl, rfl, rfl, rfl, rfl, rfl, r1, r2, r3, r4, r5, r6, r7, r8, hZ, tc_YV_e r10⟩))))))))))))
theorem i_vc_printed {k : Nat} {u : SX} {v : SY} (I : i_Rel k u v) (hk : k + 5 ≤ 2560) : wpX_printed (fun r => wpY_printed (fun r' => r' = r ∧ i_Rel (k + 5) u v) v) u := by
  have I' := I
  revert I'
  refine tc_el (P := fun u v => i_Rel k u v → wpX_printed (fun r => wpY_printed (fun r' => r' = r ∧ i_Rel (k + 5) u v) v) u) I ?_
  intro kk xx yy zz ww nn sc t q f2 f3 f4 f5 f6 f7 g2 a1 a2 a3 a4 a5 a6 o nu lo nA pA b1 b2 b3 b4 b5 b6 va el be ti r1 r2 r3 r4 r5 r6 r7 r8 r9 r10 I'
  exact ⟨rfl, I'⟩
theorem i_vc_output {k : Nat} {u : SX} {v : SY} (I : i_Rel k u v) (hk : k + 5 ≤ 2560) (v1 : Int32) : wpX_output (fun r => wpY_output (fun r' => r' = r ∧ i_Rel (k + 5) u v) v v1) u v1 := by
  have I' := I
  revert I'
  refine tc_el (P := fun u v => i_Rel k u v → wpX_output (fun r => wpY_output (fun r' => r' = r ∧ i_Rel (k + 5) u v) v v1) u v1) I ?_
  intro kk xx yy zz ww nn sc t q f2 f3 f4 f5 f6 f7 g2 a1 a2 a3 a4 a5 a6 o nu lo nA pA b1 b2 b3 b4 b5 b6 va el be ti r1 r2 r3 r4 r5 r6 r7 r8 r9 r10 I'
  rcases tc_cases v1 39 (by decide) with h | ⟨h0, h⟩ | ⟨j, hj, rfl⟩
  · exact br_t h (br_t h (br_t rfl ⟨rfl, I'⟩))
  · have h9 : ¬ v1 ≤ 39 := fun w => Int32.lt_irrefl (Int32.lt_of_lt_of_le h w)
    have hy : wpY_output (fun r' => r' = -1 ∧ i_Rel (k + 5) (nI sc, f2, f3, f4, f5, f6, f7, nI q.1, a1, a2, a3, a4, a5, a6, o, nu, lo, nA, pA, tc_tp t, q.2) (nI sc, g2, nI q.1, b1, b2, b3, b4, b5, b6, va, el, be, ti, q.2)) (nI sc, g2, nI q.1, b1, b2, b3, b4, b5, b6, va, el, be, ti, q.2) v1 := br_f h0 (br_t h (br_t rfl ⟨rfl, I'⟩))
    exact br_f h0 (br_c (fun _ => hy) (fun _ => br_f h9 hy))
  · have h0 : ¬ nI j < 0 := nI_pos (by omega)
    have h5 : ¬ nI 39 < nI j := nI_nlt hj (by decide)
    have h6 : nI j ≤ nI 39 := nI_le hj (by decide)
    have hin : vp_in (nI j) 40 := vp_in_nI (by omega) (by decide)
    refine br_f h0 (br_c (fun w => ?_) (fun w => br_t h6 (And.intro hin ?_)))
    · exact br_f h0 (br_f h5 (br_f (by decide) (br_t w ⟨rfl, I'⟩)))
    · exact br_f h0 (br_f h5 (br_f (by decide) (br_f w (And.intro hin ⟨rfl, I'⟩))))
theorem i_vc_level {k : Nat} {u : SX} {v : SY} (I : i_Rel k u v) (hk : k + 5 ≤ 2560) (v1 : Int32) : wpX_level (fun r u' => wpY_level (fun r' => r' = r ∧ i_Rel (k + 5) u' v) v v1) u v1 := by
  have I' := I
  revert I'
  refine tc_el (P := fun u v => i_Rel k u v → wpX_level (fun r u' => wpY_level (fun r' => r' = r ∧ i_Rel (k + 5) u' v) v v1) u v1) I ?_
  intro kk xx yy zz ww nn sc t q f2 f3 f4 f5 f6 f7 g2 a1 a2 a3 a4 a5 a6 o nu lo nA pA b1 b2 b3 b4 b5 b6 va el be ti r1 r2 r3 r4 r5 r6 r7 r8 r9 r10 I'
  rcases tc_cases v1 1 (by decide) with h | ⟨h0, h⟩ | ⟨j, hj, rfl⟩
  · have n0 : ¬ v1 = 0 := fun w => by rw [w] at h; exact absurd h (by decide)
    have n1 : ¬ v1 = 1 := fun w => by rw [w] at h; exact absurd h (by decide)
    exact br_t h (br_f n0 (br_f n1 ⟨rfl, I'⟩))
  · have h9 : ¬ v1 ≤ 1 := fun w => Int32.lt_irrefl (Int32.lt_of_lt_of_le h w)
    have n0 : ¬ v1 = 0 := fun w => by rw [w] at h; exact absurd h (by decide)
    have n1 : ¬ v1 = 1 := fun w => by rw [w] at h; exact absurd h (by decide)
    exact br_f h0 (br_f h9 (br_f n0 (br_f n1 ⟨rfl, I'⟩)))
  · have hc : j = 0 ∨ j = 1 := by omega
    rcases hc with rfl | rfl
    · exact br_f (by decide) (br_t (by decide) (br_t (by decide) ⟨rfl, kk, xx, yy, zz, ww, nn, sc, t, q, rfl, rfl, rfl, rfl, rfl, rfl, rfl, r1, r2, Or.inl (by decide), r4, r5, r6, r7, r8, r9, r10⟩))
    · exact br_f (by decide) (br_t (by decide) (br_f (by decide) (br_t (by decide) ⟨rfl, kk, xx, yy, zz, ww, nn, sc, t, q, rfl, rfl, rfl, rfl, rfl, rfl, rfl, r1, r2, Or.inr (by decide), r4, r5, r6, r7, r8, r9, r10⟩)))
end
section
/-! which operands fit: both sides ask the same -/
def tc_isv (x : Int32) : Prop := ¬ x < 0 ∧ ¬ 5 < x
def tc_isn (x : Int32) : Prop := ¬ x < 0 ∧ ¬ 15 < x
def tc_iss (sc : Nat) (x : Int32) : Prop := ¬ x < 0 ∧ ¬ nI sc ≤ x
def tc_k3 (k : Nat) : Prop := k = 4 ∨ k = 5 ∨ k = 6 ∨ k = 13
def tc_ft (sc k : Nat) (x y z : Int32) : Prop :=
  (k = 10 → tc_iss sc x ∧ tc_iss sc y) ∧ (k = 11 → tc_isv x ∧ tc_iss sc y ∧ tc_iss sc z) ∧ (k = 12 → tc_isv x ∧ tc_iss sc y) ∧ (k = 0 → tc_isv x ∧ tc_isn y) ∧ (k = 9 → tc_isv x) ∧
  (k ≠ 10 → k ≠ 11 → k ≠ 12 → k ≠ 0 → k ≠ 9 → tc_isv x ∧ tc_isv y ∧ (tc_k3 k → tc_isv z))
theorem tc_ft10 {sc : Nat} {x y z : Int32} : tc_ft sc 10 x y z ↔ (tc_iss sc x ∧ tc_iss sc y) := by
  constructor
  · intro h; exact h.1 rfl
  · intro h; exact ⟨fun _ => h, fun w => absurd w (by decide), fun w => absurd w (by decide), fun w => absurd w (by decide), fun w => absurd w (by decide), fun w => absurd rfl w⟩
theorem tc_ft11 {sc : Nat} {x y z : Int32} : tc_ft sc 11 x y z ↔ (tc_isv x ∧ tc_iss sc y ∧ tc_iss sc z) := by
  constructor
  · intro h; exact h.2.1 rfl
  · intro h; exact ⟨fun w => absurd w (by decide), fun _ => h, fun w => absurd w (by decide), fun w => absurd w (by decide), fun w => absurd w (by decide), fun _ w => absurd rfl w⟩
theorem tc_ft12 {sc : Nat} {x y z : Int32} : tc_ft sc 12 x y z ↔ (tc_isv x ∧ tc_iss sc y) := by
  constructor
  · intro h; exact h.2.2.1 rfl
  · intro h; exact ⟨fun w => absurd w (by decide), fun w => absurd w (by decide), fun _ => h, fun w => absurd w (by decide), fun w => absurd w (by decide), fun _ _ w => absurd rfl w⟩
theorem tc_ft0 {sc : Nat} {x y z : Int32} : tc_ft sc 0 x y z ↔ (tc_isv x ∧ tc_isn y) := by
  constructor
  · intro h; exact h.2.2.2.1 rfl
  · intro h; exact ⟨fun w => absurd w (by decide), fun w => absurd w (by decide), fun w => absurd w (by decide), fun _ => h, fun w => absurd w (by decide), fun _ _ _ w => absurd rfl w⟩
theorem tc_ft9 {sc : Nat} {x y z : Int32} : tc_ft sc 9 x y z ↔ tc_isv x := by
  constructor
  · intro h; exact h.2.2.2.2.1 rfl
  · intro h; exact ⟨fun w => absurd w (by decide), fun w => absurd w (by decide), fun w => absurd w (by decide), fun w => absurd w (by decide), fun _ => h, fun _ _ _ _ w => absurd rfl w⟩
theorem tc_ftn {sc k : Nat} {x y z : Int32} (h10 : k ≠ 10) (h11 : k ≠ 11) (h12 : k ≠ 12) (h0 : k ≠ 0) (h9 : k ≠ 9) : tc_ft sc k x y z ↔ (tc_isv x ∧ tc_isv y ∧ (tc_k3 k → tc_isv z)) := by
  constructor
  · intro h; exact h.2.2.2.2.2 h10 h11 h12 h0 h9
  · intro h; exact ⟨fun w => absurd w h10, fun w => absurd w h11, fun w => absurd w h12, fun w => absurd w h0, fun w => absurd w h9, fun _ _ _ _ _ => h⟩
theorem tc_xv {post : Int32 → Prop} {u : SX} {x : Int32} (h1 : tc_isv x → post 1) (h0 : ¬ tc_isv x → post 0) : wpX_isVariable post u x :=
  br_c (fun h => h0 (fun w => w.1 h)) (fun h => br_c (fun g => h0 (fun w => w.2 g)) (fun g => h1 ⟨h, g⟩))
theorem tc_xn {post : Int32 → Prop} {u : SX} {x : Int32} (h1 : tc_isn x → post 1) (h0 : ¬ tc_isn x → post 0) : wpX_isNumber post u x :=
  br_c (fun h => h0 (fun w => w.1 h)) (fun h => br_c (fun g => h0 (fun w => w.2 g)) (fun g => h1 ⟨h, g⟩))
theorem tc_yv {post : Int32 → Prop} {v : SY} {x : Int32} (h1 : tc_isv x → post 1) (h0 : ¬ tc_isv x → post 0) : wpY_isVariable post v x :=
  br_c (fun h => And.intro rfl (h0 (fun w => w.1 h))) (fun h => br_c (fun g => And.intro rfl (h0 (fun w => w.2 g))) (fun g => And.intro rfl (h1 ⟨h, g⟩)))
theorem tc_yn {post : Int32 → Prop} {v : SY} {x : Int32} (h1 : tc_isn x → post 1) (h0 : ¬ tc_isn x → post 0) : wpY_in post v x 0 15 :=
  br_c (fun h => h0 (fun w => w.1 h)) (fun h => br_c (fun g => h0 (fun w => w.2 g)) (fun g => h1 ⟨h, g⟩))
theorem tc_ss {sc : Nat} (hsc : sc ≤ 40) (x : Int32) : nI sc - 1 < x ↔ nI sc ≤ x := by
  rw [Int32.lt_iff_toInt_lt, Int32.le_iff_toInt_le, nI_toInt (by omega), show nI sc - 1 = nI sc - nI 1 from rfl, pk_sub_toInt (a := sc) (b := 1) (by omega) (by decide)]
  omega
section
variable {sc : Nat} {f2 f3 f4 f5 f6 f7 f8 : Int32} {a1 a2 a3 a4 a5 a6 o nu lo nA pA tp pl : tc_A} {g2 g3 : Int32} {b1 b2 b3 b4 b5 b6 va el be ti ou : tc_A}
theorem tc_xs {post : Int32 → Prop} {x : Int32} (h1 : tc_iss sc x → post 1) (h0 : ¬ tc_iss sc x → post 0) : wpX_isState post (nI sc, f2, f3, f4, f5, f6, f7, f8, a1, a2, a3, a4, a5, a6, o, nu, lo, nA, pA, tp, pl) x :=
  br_c (fun h => h0 (fun w => w.1 h)) (fun h => br_c (fun g => h0 (fun w => w.2 g)) (fun g => h1 ⟨h, g⟩))
theorem tc_ys {post : Int32 → Prop} {x : Int32} (hsc : sc ≤ 40) (h1 : tc_iss sc x → post 1) (h0 : ¬ tc_iss sc x → post 0) : wpY_isStatement post (nI sc, g2, g3, b1, b2, b3, b4, b5, b6, va, el, be, ti, ou) x :=
  br_c (fun h => And.intro rfl (h0 (fun w => w.1 h))) (fun h => br_c (fun g => And.intro rfl (h0 (fun w => w.2 ((tc_ss hsc x).mp g)))) (fun g => And.intro rfl (h1 ⟨h, fun w => g ((tc_ss hsc x).mpr w)⟩)))
theorem tc_xft {post : Int32 → Prop} {k : Nat} {x y z : Int32} (hk : k ≤ 13) (h1 : tc_ft sc k x y z → post 1) (h0 : ¬ tc_ft sc k x y z → post 0) : wpX_operandsFit post (nI sc, f2, f3, f4, f5, f6, f7, f8, a1, a2, a3, a4, a5, a6, o, nu, lo, nA, pA, tp, pl) (nI k) x y z := by
  by_cases k10 : k = 10
  · subst k10
    rw [tc_ft10] at h1 h0
    exact br_t rfl (tc_xs (fun hx => br_f (by decide) (tc_xs (fun hy => br_f (by decide) (h1 ⟨hx, hy⟩)) (fun hy => br_t rfl (h0 (fun w => hy w.2))))) (fun hx => br_t rfl (h0 (fun w => hx w.1))))
  refine br_f (fun w => k10 ((nI_eq (b := 10) (by omega) (by decide)).mp w)) ?_
  by_cases k11 : k = 11
  · subst k11
    rw [tc_ft11] at h1 h0
    exact tc_xv (fun hx => br_f (by decide) (br_t rfl (tc_xs (fun hy => br_f (by decide) (tc_xs (fun hz => br_f (by decide) (h1 ⟨hx, hy, hz⟩)) (fun hz => br_t rfl (h0 (fun w => hz w.2.2))))) (fun hy => br_t rfl (h0 (fun w => hy w.2.1)))))) (fun hx => br_t rfl (h0 (fun w => hx w.1)))
  by_cases k12 : k = 12
  · subst k12
    rw [tc_ft12] at h1 h0
    exact tc_xv (fun hx => br_f (by decide) (br_f (by decide) (br_t rfl (tc_xs (fun hy => And.intro rfl (h1 ⟨hx, hy⟩)) (fun hy => And.intro rfl (h0 (fun w => hy w.2))))))) (fun hx => br_t rfl (h0 (fun w => hx w.1)))
  by_cases k0 : k = 0
  · subst k0
    rw [tc_ft0] at h1 h0
    exact tc_xv (fun hx => br_f (by decide) (br_f (by decide) (br_f (by decide) (br_t rfl (tc_xn (fun hy => And.intro rfl (h1 ⟨hx, hy⟩)) (fun hy => And.intro rfl (h0 (fun w => hy w.2)))))))) (fun hx => br_t rfl (h0 (fun w => hx w.1)))
  by_cases k9 : k = 9
  · subst k9
    rw [tc_ft9] at h1 h0
    exact tc_xv (fun hx => br_f (by decide) (br_f (by decide) (br_f (by decide) (br_f (by decide) (br_t rfl (h1 hx)))))) (fun hx => br_t rfl (h0 hx))
  rw [tc_ftn k10 k11 k12 k0 k9] at h1 h0
  have c11 : ¬ nI k = 11 := fun w => k11 ((nI_eq (b := 11) (by omega) (by decide)).mp w)
  have c12 : ¬ nI k = 12 := fun w => k12 ((nI_eq (b := 12) (by omega) (by decide)).mp w)
  have c0 : ¬ nI k = 0 := fun w => k0 ((nI_eq (b := 0) (by omega) (by decide)).mp w)
  have c9 : ¬ nI k = 9 := fun w => k9 ((nI_eq (b := 9) (by omega) (by decide)).mp w)
  refine tc_xv (fun hx => br_f (by decide) (br_f c11 (br_f c12 (br_f c0 (br_f c9 ?_))))) (fun hx => br_t rfl (h0 (fun w => hx w.1)))
  have two : ¬ tc_k3 k → wX_operandsFit_114 post y z (nI sc) f2 f3 f4 f5 f6 f7 f8 a1 a2 a3 a4 a5 a6 o nu lo nA pA tp pl := by
    intro n3
    unfold wX_operandsFit_114 wX_operandsFit_119
    exact tc_xv (fun hy => br_f (by decide) (br_f (by decide) (h1 ⟨hx, hy, fun w => absurd w n3⟩))) (fun hy => br_t rfl (h0 (fun w => hy w.2.1)))
  by_cases k3 : k ≤ 3
  · exact br_t (nI_le k3 (by decide)) (two (by unfold tc_k3; omega))
  refine br_f (nI_ge (a := 3) (by omega) (by omega)) ?_
  by_cases k7 : k = 7
  · exact br_t (by rw [k7]; rfl) (two (by unfold tc_k3; omega))
  refine br_f (fun w => k7 ((nI_eq (b := 7) (by omega) (by decide)).mp w)) ?_
  by_cases k8 : k = 8
  · exact br_t (by rw [k8]; rfl) (two (by unfold tc_k3; omega))
  refine br_f (fun w => k8 ((nI_eq (b := 8) (by omega) (by decide)).mp w)) ?_
  have h3 : tc_k3 k := by unfold tc_k3; omega
  exact tc_xv (fun hy => br_f (by decide) (br_t rfl (tc_xv (fun hz => br_f (by decide) (h1 ⟨hx, hy, fun _ => hz⟩)) (fun hz => br_t rfl (h0 (fun w => hz (w.2.2 h3))))))) (fun hy => br_t rfl (h0 (fun w => hy w.2.1)))
theorem tc_yft {post : Int32 → Prop} {k : Nat} {x y z : Int32} (hsc : sc ≤ 40) (hk : k ≤ 13) (h1 : tc_ft sc k x y z → post 1) (h0 : ¬ tc_ft sc k x y z → post 0) : wpY_fits post (nI sc, g2, g3, b1, b2, b3, b4, b5, b6, va, el, be, ti, ou) (nI k) x y z := by
  by_cases k0 : k = 0
  · subst k0
    rw [tc_ft0] at h1 h0
    exact br_t rfl (tc_yv (fun hx => br_f (by decide) (tc_yn (fun hy => br_f (by decide) (h1 ⟨hx, hy⟩)) (fun hy => br_t rfl (h0 (fun w => hy w.2))))) (fun hx => br_t rfl (h0 (fun w => hx w.1))))
  by_cases k9 : k = 9
  · subst k9
    rw [tc_ft9] at h1 h0
    exact br_f (by decide) (br_t rfl (tc_yv (fun hx => And.intro rfl (h1 hx)) (fun hx => And.intro rfl (h0 hx))))
  by_cases k10 : k = 10
  · subst k10
    rw [tc_ft10] at h1 h0
    exact br_f (by decide) (br_f (by decide) (br_t rfl (tc_ys hsc (fun hx => br_f (by decide) (tc_ys hsc (fun hy => br_f (by decide) (h1 ⟨hx, hy⟩)) (fun hy => br_t rfl (h0 (fun w => hy w.2))))) (fun hx => br_t rfl (h0 (fun w => hx w.1))))))
  by_cases k11 : k = 11
  · subst k11
    rw [tc_ft11] at h1 h0
    exact br_f (by decide) (br_f (by decide) (br_f (by decide) (br_t rfl (tc_yv (fun hx => br_f (by decide) (tc_ys hsc (fun hy => br_f (by decide) (tc_ys hsc (fun hz => br_f (by decide) (h1 ⟨hx, hy, hz⟩)) (fun hz => br_t rfl (h0 (fun w => hz w.2.2))))) (fun hy => br_t rfl (h0 (fun w => hy w.2.1))))) (fun hx => br_t rfl (h0 (fun w => hx w.1)))))))
  by_cases k12 : k = 12
  · subst k12
    rw [tc_ft12] at h1 h0
    exact br_f (by decide) (br_f (by decide) (br_f (by decide) (br_f (by decide) (br_t rfl (tc_yv (fun hx => br_f (by decide) (tc_ys hsc (fun hy => br_f (by decide) (h1 ⟨hx, hy⟩)) (fun hy => br_t rfl (h0 (fun w => hy w.2))))) (fun hx => br_t rfl (h0 (fun w => hx w.1))))))))
  rw [tc_ftn k10 k11 k12 k0 k9] at h1 h0
  have c10 : ¬ nI k = 10 := fun w => k10 ((nI_eq (b := 10) (by omega) (by decide)).mp w)
  have c11 : ¬ nI k = 11 := fun w => k11 ((nI_eq (b := 11) (by omega) (by decide)).mp w)
  have c12 : ¬ nI k = 12 := fun w => k12 ((nI_eq (b := 12) (by omega) (by decide)).mp w)
  have c0 : ¬ nI k = 0 := fun w => k0 ((nI_eq (b := 0) (by omega) (by decide)).mp w)
  have c9 : ¬ nI k = 9 := fun w => k9 ((nI_eq (b := 9) (by omega) (by decide)).mp w)
  refine br_f c0 (br_f c9 (br_f c10 (br_f c11 (br_f c12 ?_))))
  have three : tc_k3 k → wY_fits_156 post x y z (nI sc) g2 g3 b1 b2 b3 b4 b5 b6 va el be ti ou := by
    intro h3
    unfold wY_fits_156 wY_fits_161
    exact tc_yv (fun hx => br_f (by decide) (tc_yv (fun hy => br_f (by decide) (br_f (by decide) (tc_yv (fun hz => br_f (by decide) (h1 ⟨hx, hy, fun _ => hz⟩)) (fun hz => br_t rfl (h0 (fun w => hz (w.2.2 h3))))))) (fun hy => br_t rfl (h0 (fun w => hy w.2.1))))) (fun hx => br_t rfl (h0 (fun w => hx w.1)))
  by_cases k4 : k = 4
  · exact br_t (by rw [k4]; rfl) (three (by unfold tc_k3; omega))
  refine br_f (fun w => k4 ((nI_eq (b := 4) (by omega) (by decide)).mp w)) ?_
  by_cases k5 : k = 5
  · exact br_t (by rw [k5]; rfl) (three (by unfold tc_k3; omega))
  refine br_f (fun w => k5 ((nI_eq (b := 5) (by omega) (by decide)).mp w)) ?_
  by_cases k6 : k = 6
  · exact br_t (by rw [k6]; rfl) (three (by unfold tc_k3; omega))
  refine br_f (fun w => k6 ((nI_eq (b := 6) (by omega) (by decide)).mp w)) ?_
  by_cases k13 : k = 13
  · exact br_t (by rw [k13]; rfl) (three (by unfold tc_k3; omega))
  refine br_f (fun w => k13 ((nI_eq (b := 13) (by omega) (by decide)).mp w)) ?_
  have n3 : ¬ tc_k3 k := by unfold tc_k3; omega
  exact tc_yv (fun hx => br_f (by decide) (tc_yv (fun hy => br_f (by decide) (br_t rfl (h1 ⟨hx, hy, fun w => absurd w n3⟩))) (fun hy => br_t rfl (h0 (fun w => hy w.2.1))))) (fun hx => br_t rfl (h0 (fun w => hx w.1)))
end
end
section
/-! making a statement -/
def tc_mx (a b : Nat) : Nat := if a ≤ b then b else a
def tc_nw (ww : Nat → Nat) (k x y z : Nat) : Nat := if k = 10 then 1 + (ww x + ww y) else if k = 11 then 1 + (ww y + ww z) else if k = 12 then 1 + ww y else 1
def tc_nd (nn : Nat → Nat) (k x y z : Nat) : Nat := if k = 10 then tc_mx (nn x) (nn y) else if k = 11 then 1 + tc_mx (nn y) (nn z) else if k = 12 then 1 + nn y else 0
def tc_by (x : Int32) : Int32 := vp_nar .byte x.toInt8.toInt32
theorem tc_by_n {n : Nat} (h : n < 128) : tc_by (nI n) = nI n := by
  unfold tc_by
  rw [vp_nar_byte, tc_i8 h, tc_i8 h]
theorem tc_isv_n {x : Int32} (h : tc_isv x) : ∃ j, j < 6 ∧ x = nI j := by
  obtain ⟨j, hj, e⟩ := nI_of2 (M := 5) (n := 5) (by decide) h.1 (Int32.not_lt.mp h.2)
  exact ⟨j, by omega, e⟩
theorem tc_isn_n {x : Int32} (h : tc_isn x) : ∃ j, j < 16 ∧ x = nI j := by
  obtain ⟨j, hj, e⟩ := nI_of2 (M := 15) (n := 15) (by decide) h.1 (Int32.not_lt.mp h.2)
  exact ⟨j, by omega, e⟩
theorem tc_iss_n {sc : Nat} {x : Int32} (h : tc_iss sc x) : ∃ j, j < sc ∧ x = nI j := by
  obtain ⟨j, hj, e⟩ := nI_of h.1
  subst e
  refine ⟨j, ?_, rfl⟩
  by_cases hl : j < sc
  · exact hl
  · exact absurd (nI_le (by omega) hj) h.2
theorem tc_mx_le {a b c : Nat} (ha : a ≤ c) (hb : b ≤ c) : tc_mx a b ≤ c := by
  unfold tc_mx
  by_cases h : a ≤ b
  · rw [if_pos h]; exact hb
  · rw [if_neg h]; exact ha
theorem tc_mx_l (a b : Nat) : a ≤ tc_mx a b := by
  unfold tc_mx
  by_cases h : a ≤ b
  · rw [if_pos h]; exact h
  · rw [if_neg h]; exact Nat.le_refl _
theorem tc_mx_r (a b : Nat) : b ≤ tc_mx a b := by
  unfold tc_mx
  by_cases h : a ≤ b
  · rw [if_pos h]; exact Nat.le_refl _
  · rw [if_neg h]; omega
section
variable {kk xx yy zz ww nn : Nat → Nat} {sc : Nat} {f2 f3 f4 f5 f6 f7 f8 : Int32} {a1 a2 a3 a4 a5 a6 o nu lo nA pA tp pl : tc_A}
theorem tc_x192 {post : Int32 → SX → Prop} {w n k : Nat} {x y z : Int32} (hsc : sc < 40) (hw : w < 100) (hn : n < 100)
    (hbig : ¬ (w ≤ 12 ∧ n ≤ 2) → post (-2) (nI sc, f2, f3, f4, f5, f6, f7, f8, a1, a2, a3, a4, a5, a6, o, nu, lo, nA, pA, tp, pl))
    (hok : w ≤ 12 → n ≤ 2 → post (nI sc) (nI (sc + 1), f2, f3, f4, f5, f6, f7, f8, upd a1 sc (tc_by (nI k)), upd a2 sc (tc_by x), upd a3 sc (tc_by y), upd a4 sc (tc_by z), upd a5 sc (tc_by (nI w)), upd a6 sc (tc_by (nI n)), o, nu, lo, nA, pA, tp, pl)) :
    wX_state_192 post (nI k) x y z (nI w) (nI n) (nI sc) f2 f3 f4 f5 f6 f7 f8 a1 a2 a3 a4 a5 a6 o nu lo nA pA tp pl := by
  by_cases hw12 : w ≤ 12
  · refine br_f (nI_nlt hw12 (by decide)) ?_
    by_cases hn2 : n ≤ 2
    · refine br_t (nI_le hn2 (by decide)) ?_
      have hin : vp_in (nI sc) 40 := vp_in_nI hsc (by decide)
      have cl : (nI sc).toNatClampNeg = sc := nI_clamp (by omega)
      have e : ∀ (a : tc_A) (v : Int32), upd a (nI sc).toNatClampNeg (vp_nar .byte v.toInt8.toInt32) = upd a sc (tc_by v) := fun a v => by rw [cl]; rfl
      exact nm_r (nI_1 sc) (And.intro hin (nm_r (e _ _) (And.intro hin (nm_r (e _ _) (And.intro hin (nm_r (e _ _) (And.intro hin (nm_r (e _ _) (And.intro hin (nm_r (e _ _) (And.intro hin (nm_r (e _ _) (hok hw12 hn2)))))))))))))
    · exact br_f (nI_ge (a := 2) (by omega) (by omega)) (hbig (by omega))
  · exact br_t (nI_lt (a := 12) (by omega) (by omega)) (hbig (by omega))
theorem tc_stX {post : Int32 → SX → Prop} {k : Nat} {x y z : Int32} (hsc : sc < 40) (hv : tc_vd kk xx yy zz ww nn sc) (hW : tc_WN ww nn sc a5 a6) (hk : k ≤ 13)
    (hbad : ¬ tc_ft sc k x y z → post (-1) (nI sc, f2, f3, f4, f5, f6, f7, f8, a1, a2, a3, a4, a5, a6, o, nu, lo, nA, pA, tp, pl))
    (hbig : tc_ft sc k x y z → ¬ (tc_nw ww k x.toNatClampNeg y.toNatClampNeg z.toNatClampNeg ≤ 12 ∧ tc_nd nn k x.toNatClampNeg y.toNatClampNeg z.toNatClampNeg ≤ 2) → post (-2) (nI sc, f2, f3, f4, f5, f6, f7, f8, a1, a2, a3, a4, a5, a6, o, nu, lo, nA, pA, tp, pl))
    (hok : tc_ft sc k x y z → tc_nw ww k x.toNatClampNeg y.toNatClampNeg z.toNatClampNeg ≤ 12 → tc_nd nn k x.toNatClampNeg y.toNatClampNeg z.toNatClampNeg ≤ 2 → post (nI sc) (nI (sc + 1), f2, f3, f4, f5, f6, f7, f8, upd a1 sc (tc_by (nI k)), upd a2 sc (tc_by x), upd a3 sc (tc_by y), upd a4 sc (tc_by z), upd a5 sc (tc_by (nI (tc_nw ww k x.toNatClampNeg y.toNatClampNeg z.toNatClampNeg))), upd a6 sc (tc_by (nI (tc_nd nn k x.toNatClampNeg y.toNatClampNeg z.toNatClampNeg))), o, nu, lo, nA, pA, tp, pl)) :
    wpX_state post (nI sc, f2, f3, f4, f5, f6, f7, f8, a1, a2, a3, a4, a5, a6, o, nu, lo, nA, pA, tp, pl) (nI k) x y z := by
  refine br_t (nI_lt hsc (by decide)) (br_f (nI_pos (by omega)) (br_f (nI_nlt hk (by decide)) (tc_xft hk (fun hf => br_f (by decide) ?_) (fun hf => br_t rfl (hbad hf)))))
  have hbig' := hbig hf
  have hok' := hok hf
  by_cases k10 : k = 10
  · subst k10
    rw [tc_ft10] at hf
    obtain ⟨i, hi, rfl⟩ := tc_iss_n hf.1
    obtain ⟨j, hj, rfl⟩ := tc_iss_n hf.2
    have ci : (nI i).toNatClampNeg = i := nI_clamp (by omega)
    have cj : (nI j).toNatClampNeg = j := nI_clamp (by omega)
    have ii : vp_in (nI i) 40 := vp_in_nI (by omega) (by decide)
    have ij : vp_in (nI j) 40 := vp_in_nI (by omega) (by decide)
    have wi := (hv i hi).1
    have wj := (hv j hj).1
    simp only [tc_nw, tc_nd, ci, cj, if_true] at hbig' hok'
    have e5 : 1 + (a5 (nI i).toNatClampNeg + a5 (nI j).toNatClampNeg) = nI (1 + (ww i + ww j)) := by
      rw [ci, cj, (hW i hi).1, (hW j hj).1, nI_add]; exact nI_add 1 _
    refine br_t (by decide) (And.intro ii (And.intro ij (nm_r e5 (And.intro ii (And.intro ij ?_)))))
    rw [ci, cj, (hW i hi).2, (hW j hj).2]
    by_cases hm : nn i ≤ nn j
    · have em : tc_mx (nn i) (nn j) = nn j := if_pos hm
      rw [em] at hbig' hok'
      exact br_t (nI_le hm (by omega)) (And.intro ij (tc_x192 hsc (by omega) (by omega) hbig' hok'))
    · have em : tc_mx (nn i) (nn j) = nn i := if_neg hm
      rw [em] at hbig' hok'
      exact br_f (nI_ge (by omega) (by omega)) (And.intro ii (tc_x192 hsc (by omega) (by omega) hbig' hok'))
  refine br_f (fun w => k10 ((nI_eq (b := 10) (by omega) (by decide)).mp w)) ?_
  by_cases k11 : k = 11
  · subst k11
    rw [tc_ft11] at hf
    obtain ⟨i, hi, rfl⟩ := tc_iss_n hf.2.1
    obtain ⟨j, hj, rfl⟩ := tc_iss_n hf.2.2
    have ci : (nI i).toNatClampNeg = i := nI_clamp (by omega)
    have cj : (nI j).toNatClampNeg = j := nI_clamp (by omega)
    have ii : vp_in (nI i) 40 := vp_in_nI (by omega) (by decide)
    have ij : vp_in (nI j) 40 := vp_in_nI (by omega) (by decide)
    have wi := (hv i hi).1
    have wj := (hv j hj).1
    have e5 : 1 + (a5 (nI i).toNatClampNeg + a5 (nI j).toNatClampNeg) = nI (1 + (ww i + ww j)) := by
      rw [ci, cj, (hW i hi).1, (hW j hj).1, nI_add]; exact nI_add 1 _
    have eW : tc_nw ww 11 x.toNatClampNeg i j = 1 + (ww i + ww j) := rfl
    have eD : tc_nd nn 11 x.toNatClampNeg i j = 1 + tc_mx (nn i) (nn j) := rfl
    rw [ci, cj, eW, eD] at hbig' hok'
    refine br_t (by decide) (And.intro ii (And.intro ij (nm_r e5 (And.intro ii (And.intro ij ?_)))))
    rw [ci, cj, (hW i hi).2, (hW j hj).2]
    by_cases hm : nn i ≤ nn j
    · have em : tc_mx (nn i) (nn j) = nn j := if_pos hm
      rw [em] at hbig' hok'
      exact br_t (nI_le hm (by omega)) (And.intro ij (nm_r (nI_add 1 (nn j)) (tc_x192 hsc (by omega) (by omega) hbig' hok')))
    · have em : tc_mx (nn i) (nn j) = nn i := if_neg hm
      rw [em] at hbig' hok'
      exact br_f (nI_ge (by omega) (by omega)) (And.intro ii (nm_r (nI_add 1 (nn i)) (tc_x192 hsc (by omega) (by omega) hbig' hok')))
  refine br_f (fun w => k11 ((nI_eq (b := 11) (by omega) (by decide)).mp w)) ?_
  by_cases k12 : k = 12
  · subst k12
    rw [tc_ft12] at hf
    obtain ⟨i, hi, rfl⟩ := tc_iss_n hf.2
    have ci : (nI i).toNatClampNeg = i := nI_clamp (by omega)
    have ii : vp_in (nI i) 40 := vp_in_nI (by omega) (by decide)
    have wi := (hv i hi).1
    have e5 : 1 + a5 (nI i).toNatClampNeg = nI (1 + ww i) := by
      rw [ci, (hW i hi).1]; exact nI_add 1 _
    have e6 : 1 + a6 (nI i).toNatClampNeg = nI (1 + nn i) := by
      rw [ci, (hW i hi).2]; exact nI_add 1 _
    have eW : tc_nw ww 12 x.toNatClampNeg i z.toNatClampNeg = 1 + ww i := rfl
    have eD : tc_nd nn 12 x.toNatClampNeg i z.toNatClampNeg = 1 + nn i := rfl
    rw [ci, eW, eD] at hbig' hok'
    exact br_t (by decide) (And.intro ii (nm_r e5 (And.intro ii (nm_r e6 (tc_x192 hsc (by omega) (by omega) hbig' hok')))))
  refine br_f (fun w => k12 ((nI_eq (b := 12) (by omega) (by decide)).mp w)) ?_
  have eW : tc_nw ww k x.toNatClampNeg y.toNatClampNeg z.toNatClampNeg = 1 := by
    unfold tc_nw; rw [if_neg k10, if_neg k11, if_neg k12]
  have eD : tc_nd nn k x.toNatClampNeg y.toNatClampNeg z.toNatClampNeg = 0 := by
    unfold tc_nd; rw [if_neg k10, if_neg k11, if_neg k12]
  rw [eW, eD] at hbig' hok'
  exact tc_x192 (w := 1) (n := 0) hsc (by decide) (by decide) hbig' hok'
end
end
section
/-! making a statement: the reference, and the relation behind it -/
section
variable {kk xx yy zz ww nn : Nat → Nat} {sc : Nat} {g2 g3 : Int32} {b1 b2 b3 b4 b5 b6 va el be ti ou : tc_A}
theorem tc_y158 {post : Int32 → SY → Prop} {w n k : Nat} {x y z : Int32} (hsc : sc < 40) (hw : w < 100) (hn : n < 100)
    (hbig : ¬ (w ≤ 12 ∧ n ≤ 2) → post (-2) (nI sc, g2, g3, b1, b2, b3, b4, b5, b6, va, el, be, ti, ou))
    (hok : w ≤ 12 → n ≤ 2 → post (nI sc) (nI (sc + 1), g2, g3, upd b1 sc (nI k), upd b2 sc x, upd b3 sc y, upd b4 sc z, upd b5 sc (nI w), upd b6 sc (nI n), va, el, be, ti, ou)) :
    wY_state_158 post (nI k) x y z (nI w) (nI n) (nI sc) g2 g3 b1 b2 b3 b4 b5 b6 va el be ti ou := by
  by_cases hw12 : w ≤ 12
  · refine br_f (nI_nlt hw12 (by decide)) ?_
    by_cases hn2 : n ≤ 2
    · refine br_t (nI_le hn2 (by decide)) ?_
      have hin : vp_in (nI sc) 40 := vp_in_nI hsc (by decide)
      have cl : (nI sc).toNatClampNeg = sc := nI_clamp (by omega)
      have e : ∀ (a : tc_A) (v : Int32), upd a (nI sc).toNatClampNeg v = upd a sc v := fun a v => by rw [cl]
      refine And.intro hin (nm_r (e _ _) (And.intro hin (nm_r (e _ _) (And.intro hin (nm_r (e _ _) (And.intro hin (nm_r (e _ _) (And.intro hin (nm_r (e _ _) (And.intro hin (nm_r (e _ _) (nm_r (nI_1 sc) ?_))))))))))))
      rw [nI_pred]
      exact hok hw12 hn2
    · exact br_f (nI_ge (a := 2) (by omega) (by omega)) (hbig (by omega))
  · exact br_t (nI_lt (a := 12) (by omega) (by omega)) (hbig (by omega))
theorem tc_ygr {post : Int32 → Prop} {v : SY} {a b : Nat} (ha : a < 100) (hb : b < 100) (h : post (nI (tc_mx a b))) : wpY_greater post v (nI a) (nI b) := by
  by_cases hm : a ≤ b
  · have em : tc_mx a b = b := if_pos hm
    rw [em] at h
    exact br_t (nI_le hm (by omega)) h
  · have em : tc_mx a b = a := if_neg hm
    rw [em] at h
    exact br_f (nI_ge (by omega) (by omega)) h
theorem tc_stY {post : Int32 → SY → Prop} {k : Nat} {x y z : Int32} (hsc : sc < 40) (hv : tc_vd kk xx yy zz ww nn sc) (hW : tc_WN ww nn sc b5 b6) (hk : k ≤ 13)
    (hbad : ¬ tc_ft sc k x y z → post (-1) (nI sc, g2, g3, b1, b2, b3, b4, b5, b6, va, el, be, ti, ou))
    (hbig : tc_ft sc k x y z → ¬ (tc_nw ww k x.toNatClampNeg y.toNatClampNeg z.toNatClampNeg ≤ 12 ∧ tc_nd nn k x.toNatClampNeg y.toNatClampNeg z.toNatClampNeg ≤ 2) → post (-2) (nI sc, g2, g3, b1, b2, b3, b4, b5, b6, va, el, be, ti, ou))
    (hok : tc_ft sc k x y z → tc_nw ww k x.toNatClampNeg y.toNatClampNeg z.toNatClampNeg ≤ 12 → tc_nd nn k x.toNatClampNeg y.toNatClampNeg z.toNatClampNeg ≤ 2 → post (nI sc) (nI (sc + 1), g2, g3, upd b1 sc (nI k), upd b2 sc x, upd b3 sc y, upd b4 sc z, upd b5 sc (nI (tc_nw ww k x.toNatClampNeg y.toNatClampNeg z.toNatClampNeg)), upd b6 sc (nI (tc_nd nn k x.toNatClampNeg y.toNatClampNeg z.toNatClampNeg)), va, el, be, ti, ou)) :
    wpY_state post (nI sc, g2, g3, b1, b2, b3, b4, b5, b6, va, el, be, ti, ou) (nI k) x y z := by
  have c40 : ¬ nI sc = 40 := fun w => absurd ((nI_eq (b := 40) (by omega) (by decide)).mp w) (by omega)
  refine br_f c40 (br_f (nI_pos (by omega)) (br_f (nI_nlt (b := k) (a := 13) hk (by decide)) (br_f (by decide) (tc_yft (by omega) hk (fun hf => br_f (by decide) ?_) (fun hf => br_t rfl (hbad hf))))))
  have hbig' := hbig hf
  have hok' := hok hf
  by_cases k10 : k = 10
  · subst k10
    rw [tc_ft10] at hf
    obtain ⟨i, hi, rfl⟩ := tc_iss_n hf.1
    obtain ⟨j, hj, rfl⟩ := tc_iss_n hf.2
    have ci : (nI i).toNatClampNeg = i := nI_clamp (by omega)
    have cj : (nI j).toNatClampNeg = j := nI_clamp (by omega)
    have ii : vp_in (nI i) 40 := vp_in_nI (by omega) (by decide)
    have ij : vp_in (nI j) 40 := vp_in_nI (by omega) (by decide)
    have wi := (hv i hi).1
    have wj := (hv j hj).1
    have hmx := tc_mx_le (a := nn i) (b := nn j) (c := 2) (by omega) (by omega)
    have e5 : 1 + (b5 (nI i).toNatClampNeg + b5 (nI j).toNatClampNeg) = nI (1 + (ww i + ww j)) := by
      rw [ci, cj, (hW i hi).1, (hW j hj).1, nI_add]; exact nI_add 1 _
    have eW : tc_nw ww 10 i j z.toNatClampNeg = 1 + (ww i + ww j) := rfl
    have eD : tc_nd nn 10 i j z.toNatClampNeg = tc_mx (nn i) (nn j) := rfl
    rw [ci, cj, eW, eD] at hbig' hok'
    refine br_t (by decide) (And.intro ii (And.intro ij (nm_r e5 (And.intro ii (And.intro ij ?_)))))
    rw [ci, cj, (hW i hi).2, (hW j hj).2]
    exact tc_ygr (by omega) (by omega) (br_f (by decide) (br_f (by decide) (tc_y158 hsc (by omega) (by omega) hbig' hok')))
  refine br_f (fun w => k10 ((nI_eq (b := 10) (by omega) (by decide)).mp w)) ?_
  by_cases k11 : k = 11
  · subst k11
    rw [tc_ft11] at hf
    obtain ⟨i, hi, rfl⟩ := tc_iss_n hf.2.1
    obtain ⟨j, hj, rfl⟩ := tc_iss_n hf.2.2
    have ci : (nI i).toNatClampNeg = i := nI_clamp (by omega)
    have cj : (nI j).toNatClampNeg = j := nI_clamp (by omega)
    have ii : vp_in (nI i) 40 := vp_in_nI (by omega) (by decide)
    have ij : vp_in (nI j) 40 := vp_in_nI (by omega) (by decide)
    have wi := (hv i hi).1
    have wj := (hv j hj).1
    have hmx := tc_mx_le (a := nn i) (b := nn j) (c := 2) (by omega) (by omega)
    have e5 : 1 + (b5 (nI i).toNatClampNeg + b5 (nI j).toNatClampNeg) = nI (1 + (ww i + ww j)) := by
      rw [ci, cj, (hW i hi).1, (hW j hj).1, nI_add]; exact nI_add 1 _
    have eW : tc_nw ww 11 x.toNatClampNeg i j = 1 + (ww i + ww j) := rfl
    have eD : tc_nd nn 11 x.toNatClampNeg i j = 1 + tc_mx (nn i) (nn j) := rfl
    rw [ci, cj, eW, eD] at hbig' hok'
    refine br_t (by decide) (And.intro ii (And.intro ij (nm_r e5 (And.intro ii (And.intro ij ?_)))))
    rw [ci, cj, (hW i hi).2, (hW j hj).2]
    exact tc_ygr (by omega) (by omega) (nm_r (nI_add 1 (tc_mx (nn i) (nn j))) (br_f (by decide) (tc_y158 hsc (by omega) (by omega) hbig' hok')))
  refine br_f (fun w => k11 ((nI_eq (b := 11) (by omega) (by decide)).mp w)) ?_
  by_cases k12 : k = 12
  · subst k12
    rw [tc_ft12] at hf
    obtain ⟨i, hi, rfl⟩ := tc_iss_n hf.2
    have ci : (nI i).toNatClampNeg = i := nI_clamp (by omega)
    have ii : vp_in (nI i) 40 := vp_in_nI (by omega) (by decide)
    have wi := (hv i hi).1
    have e5 : 1 + b5 (nI i).toNatClampNeg = nI (1 + ww i) := by
      rw [ci, (hW i hi).1]; exact nI_add 1 _
    have e6 : 1 + b6 (nI i).toNatClampNeg = nI (1 + nn i) := by
      rw [ci, (hW i hi).2]; exact nI_add 1 _
    have eW : tc_nw ww 12 x.toNatClampNeg i z.toNatClampNeg = 1 + ww i := rfl
    have eD : tc_nd nn 12 x.toNatClampNeg i z.toNatClampNeg = 1 + nn i := rfl
    rw [ci, eW, eD] at hbig' hok'
    exact br_t (by decide) (And.intro ii (nm_r e5 (And.intro ii (nm_r e6 (tc_y158 hsc (by omega) (by omega) hbig' hok')))))
  refine br_f (fun w => k12 ((nI_eq (b := 12) (by omega) (by decide)).mp w)) ?_
  have eW : tc_nw ww k x.toNatClampNeg y.toNatClampNeg z.toNatClampNeg = 1 := by
    unfold tc_nw; rw [if_neg k10, if_neg k11, if_neg k12]
  have eD : tc_nd nn k x.toNatClampNeg y.toNatClampNeg z.toNatClampNeg = 0 := by
    unfold tc_nd; rw [if_neg k10, if_neg k11, if_neg k12]
  rw [eW, eD] at hbig' hok'
  exact tc_y158 (w := 1) (n := 0) hsc (by decide) (by decide) hbig' hok'
end
def tc_nu (f : Nat → Nat) (i v : Nat) : Nat → Nat := fun j => if j = i then v else f j
theorem tc_nu_s {f : Nat → Nat} {i v : Nat} : tc_nu f i v i = v := if_pos rfl
theorem tc_nu_n {f : Nat → Nat} {i j v : Nat} (h : j < i) : tc_nu f i v j = f j := if_neg (by omega)
section
variable {kk xx yy zz ww nn : Nat → Nat} {sc : Nat}
theorem tc_ft_n {k : Nat} {x y z : Int32} (hsc : sc ≤ 40) (hf : tc_ft sc k x y z) :
    (x = nI x.toNatClampNeg ∧ x.toNatClampNeg < 128) ∧ (k ≠ 9 → y = nI y.toNatClampNeg ∧ y.toNatClampNeg < 128) ∧ (k = 4 ∨ k = 5 ∨ k = 6 ∨ k = 11 ∨ k = 13 → z = nI z.toNatClampNeg ∧ z.toNatClampNeg < 128) ∧
    (k = 10 → x.toNatClampNeg < sc ∧ y.toNatClampNeg < sc) ∧ (k = 11 → x.toNatClampNeg < 6 ∧ y.toNatClampNeg < sc ∧ z.toNatClampNeg < sc) ∧ (k = 12 → x.toNatClampNeg < 6 ∧ y.toNatClampNeg < sc) ∧
    (k ≠ 10 → k ≠ 11 → k ≠ 12 → tc_vp k x.toNatClampNeg y.toNatClampNeg z.toNatClampNeg) := by
  have S : ∀ {w : Int32}, tc_iss sc w → w = nI w.toNatClampNeg ∧ w.toNatClampNeg < sc := by
    intro w h
    obtain ⟨j, hj, rfl⟩ := tc_iss_n h
    rw [nI_clamp (by omega)]; exact ⟨rfl, hj⟩
  have V : ∀ {w : Int32}, tc_isv w → w = nI w.toNatClampNeg ∧ w.toNatClampNeg < 6 := by
    intro w h
    obtain ⟨j, hj, rfl⟩ := tc_isv_n h
    rw [nI_clamp (by omega)]; exact ⟨rfl, hj⟩
  have N : ∀ {w : Int32}, tc_isn w → w = nI w.toNatClampNeg ∧ w.toNatClampNeg < 16 := by
    intro w h
    obtain ⟨j, hj, rfl⟩ := tc_isn_n h
    rw [nI_clamp (by omega)]; exact ⟨rfl, hj⟩
  obtain ⟨h10, h11, h12, h0, h9, hr⟩ := hf
  by_cases k10 : k = 10
  · obtain ⟨p1, p2⟩ := h10 k10
    have q1 := S p1
    have q2 := S p2
    exact ⟨⟨q1.1, by omega⟩, fun _ => ⟨q2.1, by omega⟩, fun w => absurd w (by omega), fun _ => ⟨q1.2, q2.2⟩, fun w => absurd w (by omega), fun w => absurd w (by omega), fun w => absurd k10 w⟩
  by_cases k11 : k = 11
  · obtain ⟨p1, p2, p3⟩ := h11 k11
    have q1 := V p1
    have q2 := S p2
    have q3 := S p3
    exact ⟨⟨q1.1, by omega⟩, fun _ => ⟨q2.1, by omega⟩, fun _ => ⟨q3.1, by omega⟩, fun w => absurd w k10, fun _ => ⟨q1.2, q2.2, q3.2⟩, fun w => absurd w (by omega), fun _ w => absurd k11 w⟩
  by_cases k12 : k = 12
  · obtain ⟨p1, p2⟩ := h12 k12
    have q1 := V p1
    have q2 := S p2
    exact ⟨⟨q1.1, by omega⟩, fun _ => ⟨q2.1, by omega⟩, fun w => absurd w (by omega), fun w => absurd w k10, fun w => absurd w k11, fun _ => ⟨q1.2, q2.2⟩, fun _ _ w => absurd k12 w⟩
  by_cases k0 : k = 0
  · obtain ⟨p1, p2⟩ := h0 k0
    have q1 := V p1
    have q2 := N p2
    exact ⟨⟨q1.1, by omega⟩, fun _ => ⟨q2.1, by omega⟩, fun w => absurd w (by omega), fun w => absurd w k10, fun w => absurd w k11, fun w => absurd w k12, fun _ _ _ => ⟨q1.2, fun _ => q2.2, fun w => absurd k0 w, fun w => absurd w (by omega)⟩⟩
  by_cases k9 : k = 9
  · have q1 := V (h9 k9)
    exact ⟨⟨q1.1, by omega⟩, fun w => absurd k9 w, fun w => absurd w (by omega), fun w => absurd w k10, fun w => absurd w k11, fun w => absurd w k12, fun _ _ _ => ⟨q1.2, fun w => absurd w k0, fun _ w => absurd k9 w, fun w => absurd w (by omega)⟩⟩
  obtain ⟨p1, p2, p3⟩ := hr k10 k11 k12 k0 k9
  have q1 := V p1
  have q2 := V p2
  refine ⟨⟨q1.1, by omega⟩, fun _ => ⟨q2.1, by omega⟩, fun w => ?_, fun w => absurd w k10, fun w => absurd w k11, fun w => absurd w k12, fun _ _ _ => ⟨q1.2, fun w => absurd w k0, fun _ _ => q2.2, fun w => (V (p3 w)).2⟩⟩
  have q3 := V (p3 (by unfold tc_k3; omega))
  exact ⟨q3.1, by omega⟩
theorem tc_vd_new {k x y z : Nat} (hv : tc_vd kk xx yy zz ww nn sc) (hk : k ≤ 13) (c10 : k = 10 → x < sc ∧ y < sc) (c11 : k = 11 → x < 6 ∧ y < sc ∧ z < sc) (c12 : k = 12 → x < 6 ∧ y < sc) (cp : k ≠ 10 → k ≠ 11 → k ≠ 12 → tc_vp k x y z) (hw : tc_nw ww k x y z ≤ 12) (hd : tc_nd nn k x y z ≤ 2) :
    tc_vd (tc_nu kk sc k) (tc_nu xx sc x) (tc_nu yy sc y) (tc_nu zz sc z) (tc_nu ww sc (tc_nw ww k x y z)) (tc_nu nn sc (tc_nd nn k x y z)) (sc + 1) := by
  intro s hs
  by_cases hlt : s < sc
  · obtain ⟨v0, v1, v2, v3, v4⟩ := hv s hlt
    rw [tc_nu_n hlt, tc_nu_n hlt, tc_nu_n hlt, tc_nu_n hlt, tc_nu_n hlt, tc_nu_n hlt]
    refine ⟨v0, fun h => ?_, fun h => ?_, fun h => ?_, v4⟩
    · obtain ⟨a, b, c⟩ := v1 h
      rw [tc_nu_n (by omega), tc_nu_n (by omega), tc_nu_n (by omega), tc_nu_n (by omega)]
      exact ⟨a, b, c⟩
    · obtain ⟨e, a, b, c⟩ := v2 h
      rw [tc_nu_n (by omega), tc_nu_n (by omega), tc_nu_n (by omega), tc_nu_n (by omega)]
      exact ⟨e, a, b, c⟩
    · obtain ⟨e, a, c⟩ := v3 h
      rw [tc_nu_n (by omega), tc_nu_n (by omega)]
      exact ⟨e, a, c⟩
  · have e : s = sc := by omega
    subst e
    rw [tc_nu_s, tc_nu_s, tc_nu_s, tc_nu_s, tc_nu_s, tc_nu_s]
    have w1 : 1 ≤ tc_nw ww k x y z := by
      unfold tc_nw
      by_cases k10 : k = 10
      · rw [if_pos k10]; omega
      rw [if_neg k10]
      by_cases k11 : k = 11
      · rw [if_pos k11]; omega
      rw [if_neg k11]
      by_cases k12 : k = 12
      · rw [if_pos k12]; omega
      rw [if_neg k12]; exact Nat.le_refl _
    refine ⟨⟨hk, w1, hw, hd⟩, fun h => ?_, fun h => ?_, fun h => ?_, cp⟩
    · obtain ⟨a, b⟩ := c10 h
      subst h
      rw [tc_nu_n a, tc_nu_n b, tc_nu_n a, tc_nu_n b]
      exact ⟨a, b, rfl, tc_mx_l _ _, tc_mx_r _ _⟩
    · obtain ⟨e, a, b⟩ := c11 h
      subst h
      rw [tc_nu_n a, tc_nu_n b, tc_nu_n a, tc_nu_n b]
      refine ⟨e, a, b, rfl, ?_, ?_⟩
      · show nn y + 1 ≤ 1 + tc_mx (nn y) (nn z)
        have := tc_mx_l (nn y) (nn z)
        omega
      · show nn z + 1 ≤ 1 + tc_mx (nn y) (nn z)
        have := tc_mx_r (nn y) (nn z)
        omega
    · obtain ⟨e, a⟩ := c12 h
      subst h
      rw [tc_nu_n a, tc_nu_n a]
      refine ⟨e, a, rfl, ?_⟩
      show nn y + 1 ≤ 1 + nn y
      omega
theorem tc_XR_new {k x y z : Nat} {a1 a2 a3 a4 : tc_A} {K X Y Z : Int32} (hX : tc_XR kk xx yy zz sc a1 a2 a3 a4) (eK : K = nI k) (eX : X = nI x) (eY : k ≠ 9 → Y = nI y) (eZ : k = 4 ∨ k = 5 ∨ k = 6 ∨ k = 11 ∨ k = 13 → Z = nI z) :
    tc_XR (tc_nu kk sc k) (tc_nu xx sc x) (tc_nu yy sc y) (tc_nu zz sc z) (sc + 1) (upd a1 sc K) (upd a2 sc X) (upd a3 sc Y) (upd a4 sc Z) := by
  intro s hs
  by_cases hlt : s < sc
  · rw [tc_nu_n hlt, tc_nu_n hlt, tc_nu_n hlt, tc_nu_n hlt, pk_un (by omega), pk_un (by omega), pk_un (by omega), pk_un (by omega)]
    exact hX s hlt
  · have e : s = sc := by omega
    subst e
    rw [tc_nu_s, tc_nu_s, tc_nu_s, tc_nu_s, pk_us, pk_us, pk_us, pk_us]
    exact ⟨eK, eX, eY, eZ⟩
theorem tc_WN_new {w n : Nat} {a5 a6 : tc_A} {W N : Int32} (h : tc_WN ww nn sc a5 a6) (eW : W = nI w) (eN : N = nI n) : tc_WN (tc_nu ww sc w) (tc_nu nn sc n) (sc + 1) (upd a5 sc W) (upd a6 sc N) := by
  intro s hs
  by_cases hlt : s < sc
  · rw [tc_nu_n hlt, tc_nu_n hlt, pk_un (by omega), pk_un (by omega)]
    exact h s hlt
  · have e : s = sc := by omega
    subst e
    rw [tc_nu_s, tc_nu_s, pk_us, pk_us]
    exact ⟨eW, eN⟩
end
theorem i_vc_state {k : Nat} {u : SX} {v : SY} (I : i_Rel k u v) (hk : k + 5 ≤ 2560) (v1 : Int32) (v2 : Int32) (v3 : Int32) (v4 : Int32) : wpX_state (fun r u' => wpY_state (fun r' v' => r' = r ∧ i_Rel (k + 5) u' v') v v1 v2 v3 v4) u v1 v2 v3 v4 := by
  have I' := I
  revert I'
  refine tc_el (P := fun u v => i_Rel k u v → wpX_state (fun r u' => wpY_state (fun r' v' => r' = r ∧ i_Rel (k + 5) u' v') v v1 v2 v3 v4) u v1 v2 v3 v4) I ?_
  intro kk xx yy zz ww nn sc t q f2 f3 f4 f5 f6 f7 g2 a1 a2 a3 a4 a5 a6 o nu lo nA pA b1 b2 b3 b4 b5 b6 va el be ti r1 r2 r3 r4 r5 r6 r7 r8 r9 r10 I'
  by_cases hsc : sc < 40
  · have c40 : ¬ nI sc = 40 := fun w => absurd ((nI_eq (b := 40) (by omega) (by decide)).mp w) (by omega)
    rcases tc_cases v1 13 (by decide) with h | ⟨h0, h⟩ | ⟨j, hj, rfl⟩
    · exact br_t (nI_lt hsc (by decide)) (br_t h (br_f c40 (br_t h (br_t rfl ⟨rfl, I'⟩))))
    · exact br_t (nI_lt hsc (by decide)) (br_f h0 (br_t h (br_f c40 (br_f h0 (br_t h (br_t rfl ⟨rfl, I'⟩))))))
    · refine tc_stX hsc r4 r7 hj (fun hf => ?_) (fun hf hb => ?_) (fun hf hw hd => ?_)
      · exact tc_stY hsc r4 r8 hj (fun _ => ⟨rfl, I'⟩) (fun w => absurd w hf) (fun w => absurd w hf)
      · exact tc_stY hsc r4 r8 hj (fun w => absurd hf w) (fun _ _ => ⟨rfl, I'⟩) (fun _ x y => absurd ⟨x, y⟩ hb)
      · refine tc_stY hsc r4 r8 hj (fun w => absurd hf w) (fun _ w => absurd ⟨hw, hd⟩ w) (fun _ _ _ => ?_)
        obtain ⟨⟨x1, x2⟩, y1, z1, c10, c11, c12, cp⟩ := tc_ft_n r1 hf
        refine ⟨rfl, tc_nu kk sc j, tc_nu xx sc v2.toNatClampNeg, tc_nu yy sc v3.toNatClampNeg, tc_nu zz sc v4.toNatClampNeg, tc_nu ww sc (tc_nw ww j v2.toNatClampNeg v3.toNatClampNeg v4.toNatClampNeg), tc_nu nn sc (tc_nd nn j v2.toNatClampNeg v3.toNatClampNeg v4.toNatClampNeg), sc + 1, t, q, rfl, rfl, rfl, rfl, rfl, rfl, rfl, by omega, r2, r3, tc_vd_new r4 hj c10 c11 c12 cp hw hd, ?_, ?_, ?_, ?_, r9, r10⟩
        · refine tc_XR_new r5 (tc_by_n (by omega)) ?_ (fun w => ?_) (fun w => ?_)
          · exact (congrArg tc_by x1).trans (tc_by_n x2)
          · obtain ⟨e, g⟩ := y1 w
            exact (congrArg tc_by e).trans (tc_by_n g)
          · obtain ⟨e, g⟩ := z1 w
            exact (congrArg tc_by e).trans (tc_by_n g)
        · exact tc_XR_new r6 rfl x1 (fun w => (y1 w).1) (fun w => (z1 w).1)
        · exact tc_WN_new r7 (tc_by_n (by omega)) (tc_by_n (by omega))
        · exact tc_WN_new r8 rfl rfl
  · have e : sc = 40 := by omega
    subst e
    exact br_f (by decide) (br_t (by decide) ⟨rfl, I'⟩)
end
